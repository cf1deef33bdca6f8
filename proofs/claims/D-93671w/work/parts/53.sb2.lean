/-! ===== StringBuilder.toString; by gen/sb2.py ===== -/
set_option maxRecDepth 100000
theorem tJ11_checkLength (l : Launch) (n : Nat) (hn : n < 16) : Met l yJ11_checkLength (ws_ yJ11_checkLength cJ11_checkLength 2 none) { frames := 0, cells := 0, slots := 0, locals := 0 } (va_Pc [.int 0, .int (nI n)] (fun _ => True)) (rQ none) 0 0 (fun _ => False) := by
  refine g_entry (by decide) (Nat.le_of_ble_eq_true rfl) ?_
  intro p e s m args below meth c ls hx hb hml hown hts hlk hr hB hl _
  have hS : va_S nA s.heap s.heap [] := va_S.rf
  have hl : lv_has ls 2 [(0, .int 0), (1, .int (nI n))] := hl
  refine lv_iload_n hx hb dJ11_checkLength_0 rfl (lv_at hl 1 rfl) ?_
  refine lv_iload_n hx hb dJ11_checkLength_1 rfl (lv_at hl 0 rfl) ?_
  refine lv_icmp_ge (tgt := 37) hx hb dJ11_checkLength_2 (by decide) (fun _ => ?_) (fun h9 => absurd (nI_pos' (by omega)) h9)
  exact rq_void hx hb hlk hr dJ11_checkLength_37
def crP (D : va_G) (bv cB sz : Nat) (f : Nat → Int32) (V : State) : Prop := (V.heap.size = sz ∧ va_P D vcl [(bv, .inl (cB, 16, .inl f))] V.heap) ∧ va_K D vcl [(cB, .byte)] V
theorem cr_blind {as : List Value} {D : va_G} {bv cB sz : Nat} {f : Nat → Int32} : FrameBlind (va_Pc as (crP D bv cB sz f)) := fun a V g mk q => ⟨q.1, q.2.1, va_K.moved (u := V) (U := V.calling g mk a) (Vm.Alike.refl V.vm) q.2.2⟩
def crQ (D : va_G) (bv cB sz n : Nat) (f : Nat → Int32) : Array Value → State → Outcome → State → Prop := va_Qr (fun _ : Unit => True) (fun _ q t => sz ≤ q ∧ va_P D vcl [(bv, .inl (cB, 16, .inl f)), (q, .inl (cB, n, .inl (va_cpy f (fun _ => 0) 0 0 n)))] t.heap) (fun q => q = bv ∨ sz ≤ q)
set_option maxHeartbeats 1000000 in
theorem tJ11_copyOfRangeByte (l : Launch) (D : va_G) (bv cB sz n : Nat) (f : Nat → Int32) (hn : n < 16) (hf : ∀ i, i < n → fits .byte (.int (f i)) = true) (hbv : bv < sz) : Met l yJ11_copyOfRangeByte (ws_ yJ11_copyOfRangeByte cJ11_copyOfRangeByte 5 (some (.array .byte))) { frames := 1, cells := 1, slots := n, locals := 60 } (va_Pc [.ref bv, .int 0, .int (nI n)] (crP D bv cB sz f)) (crQ D bv cB sz n f) 1 n (fun q => q = bv ∨ sz ≤ q) := by
  refine g_entry (by decide) (Nat.le_of_ble_eq_true rfl) ?_
  intro p e s m args below meth c ls hx hb hml hown hts hlk hr hB hl _
  obtain ⟨⟨hsz, hP⟩, hK⟩ := hB
  subst hsz
  have hl : lv_has ls 5 [(0, .ref bv), (1, .int 0), (2, .int (nI n))] := hl
  have hown : s.vm.findClass RJ11 = some m.cls := hown
  have hD : va_D (fun q => q = bv ∨ s.heap.size ≤ q) [(bv, .inl (cB, 16, .inl f))] := vd_1 (Or.inl rfl)
  have hA : ∀ q, s.heap.size ≤ q → (q = bv ∨ s.heap.size ≤ q) := fun q h => Or.inr h
  have hS : va_S (fun q => q = bv ∨ s.heap.size ≤ q) s.heap s.heap [] := va_S.rf
  refine lv_iload_n hx hb dJ11_copyOfRangeByte_0 rfl (lv_at hl 1 rfl) ?_
  refine lv_iload_n hx hb dJ11_copyOfRangeByte_1 rfl (lv_at hl 2 rfl) ?_
  refine r_call (W.runS (As := [.int 0, .int (nI n)]) (rest := []) ⟨hx, hb, hml, hown, hts⟩ (tJ11_checkLength l n hn) (va_cwS 2 hts (lw_S q403 q404 q78 q405) rfl rfl rfl (by decide +kernel) ⟨Nat.le_of_ble_eq_true rfl, Nat.le_of_ble_eq_true rfl⟩) ⟨blindT, fun U hU hW => ⟨rfl, trivial⟩⟩ rfl rfl hl.1 rfl (lv_room (Nat.le_of_ble_eq_true rfl)) dJ11_copyOfRangeByte_2 ⟨Nat.zero_le _, Nat.zero_le _⟩) ?_
  refine lv_iload_n hx hb dJ11_copyOfRangeByte_5 rfl (lv_at hl 2 rfl) ?_
  refine lv_iload_n hx hb dJ11_copyOfRangeByte_6 rfl (lv_at hl 1 rfl) ?_
  refine lv_isub hx hb dJ11_copyOfRangeByte_7 ?_
  rw [show ∀ x : Int32, x - 0 = x from fun x => by simp]
  refine lv_istore_n (lv' := [(3, .int (nI n)), (0, .ref bv), (1, .int 0), (2, .int (nI n))]) hx hb dJ11_copyOfRangeByte_8 rfl hl (by decide) rfl (fun ls hl => ?_)
  refine lv_iload_n hx hb dJ11_copyOfRangeByte_9 rfl (lv_at hl 0 rfl) ?_
  refine va_newa (atype := .byte) hx hb (hts _ q160) (ty := .byte) rfl hK hP hD hS hA (n := nI n) (N' := n) (a0 := (n, .inl (fun _ => 0))) (fun _ => rfl) (nI_pos (by omega)) (nI_clamp (by omega)) (by show n * 1 ≤ 536870912; omega) (Nat.le_of_ble_eq_true rfl) (by show 0 + n ≤ n; omega) dJ11_copyOfRangeByte_10 (fun nv cA H hK hP hD hS => ?_)
  have ec : cB = cA := cls_byte hK (i := 0) (j := 1) rfl rfl
  subst ec
  have hP : va_P D vcl [(bv, .inl (cB, 16, .inl f)), (nv, .inl (cB, n, .inl (fun _ => 0)))] H := hP
  have hD : va_D (fun q => q = bv ∨ s.heap.size ≤ q) [(bv, .inl (cB, 16, .inl f)), (nv, .inl (cB, n, .inl (fun _ => 0)))] := hD
  refine lv_astore (lv' := [(4, .ref nv), (3, .int (nI n)), (0, .ref bv), (1, .int 0), (2, .int (nI n))]) hx hb dJ11_copyOfRangeByte_12 hl (by decide) rfl (fun ls hl => ?_)
  refine lv_aload_n hx hb dJ11_copyOfRangeByte_14 rfl (lv_at hl 2 rfl) ?_
  refine lv_iload_n hx hb dJ11_copyOfRangeByte_15 rfl (lv_at hl 3 rfl) ?_
  refine lv_aload hx hb dJ11_copyOfRangeByte_16 (lv_at hl 0 rfl) ?_
  refine lv_iconst (v := 0) hx hb dJ11_copyOfRangeByte_18 (by decide) ?_
  refine lv_aload_n hx hb dJ11_copyOfRangeByte_19 rfl (lv_at hl 2 rfl) ?_
  refine va_alen hx hb hK hP 0 0 rfl rfl (v := 16) (show Int32.ofNat 16 = 16 from by decide) dJ11_copyOfRangeByte_20 ?_
  refine lv_iload_n hx hb dJ11_copyOfRangeByte_21 rfl (lv_at hl 3 rfl) ?_
  refine lv_isub hx hb dJ11_copyOfRangeByte_22 ?_
  rw [show ∀ x : Int32, x - 0 = x from fun x => by simp]
  refine lv_iload_n hx hb dJ11_copyOfRangeByte_23 rfl (lv_at hl 1 rfl) ?_
  refine va_mmin hx hb (by rw [hml]; exact hl.1.symm) hown (hts _ q338) (hts _ q339) (hts _ q77) (hts _ q340) (Nat.le_of_ble_eq_true rfl) (Nat.le_of_ble_eq_true rfl) (Nat.le_of_ble_eq_true rfl) (by show 0 + n ≤ n; omega) dJ11_copyOfRangeByte_24 ?_
  rw [if_pos (show nI n < 16 from nI_lt (b := 16) hn (by decide))]
  have hnv : s.heap.size ≤ nv := by
    rcases hD.2 1 _ rfl with h | h
    · have h : nv = bv := h
      exact absurd (hD.1 1 0 _ _ rfl rfl h) (by decide)
    · exact h
  have hw : nativeFrameWords "java/lang/System" "arraycopy" 5 + 11 ≤ 52 := by decide +kernel
  refine va_copyi hx hb (by rw [hml]; exact hl.1.symm) hown (hts _ q341) (hts _ q343) (hts _ q342) (hts _ q79) hK hP hD hS 0 1 0 1 rfl rfl rfl rfl rfl (by decide) (by decide) (nI_pos (by omega)) (by rw [nI_clamp (by omega)]; show 0 + n ≤ 16; omega) (by rw [nI_clamp (by omega)]; show 0 + n ≤ n; omega) (by rw [nI_clamp (by omega)]; intro i hi; show fits .byte (.int (f (0 + i))) = true; rw [Nat.zero_add]; exact hf i hi) (Nat.le_of_ble_eq_true rfl) (by show 0 + (nativeFrameWords "java/lang/System" "arraycopy" 5 + 11) ≤ 60; omega) dJ11_copyOfRangeByte_27 (fun H2 locs2 hP2 hD2 hS2 => ?_)
  rw [nI_clamp (by omega)] at hP2
  refine lv_aload hx hb dJ11_copyOfRangeByte_30 (lv_at hl 0 rfl) ?_
  refine W.widen (k := 1) (n := n) (Nat.le_of_ble_eq_true rfl) (by show 0 + n ≤ n; omega) ?_
  exact W.aret hx hb hr (Or.inr ⟨_, rfl⟩) (Or.inr ⟨_, rfl⟩) (fun t ht hW => ⟨⟨(), nv, rfl, trivial, hnv, by rw [ht]; exact hP2⟩, hS2.F ht⟩) hS2.2.2 dJ11_copyOfRangeByte_32 hlk
set_option maxHeartbeats 1000000 in
theorem tJ11_copyOfRange (l : Launch) (D : va_G) (bv cB sz n : Nat) (f : Nat → Int32) (hn : n < 16) (hf : ∀ i, i < n → fits .byte (.int (f i)) = true) (hbv : bv < sz) : Met l yJ11_copyOfRange (ws_ yJ11_copyOfRange cJ11_copyOfRange 3 (some (.array .byte))) { frames := 2, cells := 1, slots := n, locals := 84 } (va_Pc [.ref bv, .int 0, .int (nI n)] (crP D bv cB sz f)) (crQ D bv cB sz n f) 1 n (fun q => q = bv ∨ sz ≤ q) := by
  refine g_entry (by decide) (Nat.le_of_ble_eq_true rfl) ?_
  intro p e s m args below meth c ls hx hb hml hown hts hlk hr hB hl _
  obtain ⟨⟨hsz, hP⟩, hK⟩ := id hB
  subst hsz
  have hl : lv_has ls 3 [(0, .ref bv), (1, .int 0), (2, .int (nI n))] := hl
  have hown : s.vm.findClass RJ11 = some m.cls := hown
  refine lv_iload_n hx hb dJ11_copyOfRange_0 rfl (lv_at hl 1 rfl) ?_
  refine lv_if_ne (tgt := 10) hx hb dJ11_copyOfRange_1 (by decide) (fun h9 => absurd h9 (by decide)) (fun _ => ?_)
  refine lv_iload_n hx hb dJ11_copyOfRange_4 rfl (lv_at hl 2 rfl) ?_
  refine lv_aload_n hx hb dJ11_copyOfRange_5 rfl (lv_at hl 0 rfl) ?_
  refine va_alen hx hb hK hP 0 0 rfl rfl (v := 16) (show Int32.ofNat 16 = 16 from by decide) dJ11_copyOfRange_6 ?_
  refine lv_icmp_eq (tgt := 17) hx hb dJ11_copyOfRange_7 (by decide) (fun h9 => absurd h9 (fun z => by have := (nI_eq (by omega) (by decide)).mp (show nI n = nI 16 from z); omega)) (fun _ => ?_)
  refine lv_aload_n hx hb dJ11_copyOfRange_10 rfl (lv_at hl 0 rfl) ?_
  refine lv_iload_n hx hb dJ11_copyOfRange_11 rfl (lv_at hl 1 rfl) ?_
  refine lv_iload_n hx hb dJ11_copyOfRange_12 rfl (lv_at hl 2 rfl) ?_
  refine va_callr (A0 := fun q => q = bv ∨ s.heap.size ≤ q) (va_runS (As := [.ref bv, .int 0, .int (nI n)]) (rest := []) ⟨hx, hb, hml, hown, hts⟩ (tJ11_copyOfRangeByte l D bv cB s.heap.size n f hn hf hbv) (va_cwS 3 hts (lw_S q400 q401 q78 q402) rfl rfl rfl (by decide +kernel) ⟨Nat.le_of_ble_eq_true rfl, Nat.le_of_ble_eq_true rfl⟩) ⟨cr_blind, fun U hU hW => ⟨rfl, ⟨by rw [hU], by rw [hU]; exact hP⟩, va_K.moved hW.alike hK⟩⟩ rfl rfl hl.1 rfl (lv_room (Nat.le_of_ble_eq_true rfl)) dJ11_copyOfRange_13 ⟨Nat.le_of_ble_eq_true rfl, by show 0 + n ≤ n; omega⟩) va_S.rf (fun q _ h => h) (fun q h => h) (fun b a t H1 locs1 ht hvm hp hB2 hz hkp hS => ?_)
  refine W.widen (k := 1) (n := n) (Nat.le_of_ble_eq_true rfl) (by show 0 + n ≤ n; omega) ?_
  exact W.aret hx hb hr (Or.inr ⟨_, rfl⟩) (Or.inr ⟨_, rfl⟩) (fun t2 ht2 hW => ⟨⟨(), a, rfl, trivial, hB2.1, by rw [ht2, ← ht]; exact hB2.2⟩, hS.F ht2⟩) hS.2.2 dJ11_copyOfRange_16 hlk
def stC (t tv cB n : Nat) (f : Nat → Int32) : va_W := [(t, .inr (19, [.ref tv, .int 0, .int 0, .int 0])), (tv, .inl (cB, n, .inl (va_cpy f (fun _ => 0) 0 0 n)))]
def siA (t bv sz : Nat) : Nat → Prop := fun q => q = t ∨ q = bv ∨ sz ≤ q
def siP (D : va_G) (t sb bv cB sz n : Nat) (f : Nat → Int32) (V : State) : Prop := (V.heap.size = sz ∧ va_P D vcl [(t, .inr (19, [.null, .int 0, .int 0, .int 0]))] V.heap ∧ t ≠ sb ∧ t ≠ bv ∧ t < sz ∧ bv < sz ∧ sb < sz ∧ sb ≠ bv) ∧ bB D sb bv cB (nI n) f V
theorem si_blind {as : List Value} {D : va_G} {t sb bv cB sz n : Nat} {f : Nat → Int32} : FrameBlind (va_Pc as (siP D t sb bv cB sz n f)) := fun a V g mk q => ⟨q.1, q.2.1, (bB_blind a V g mk ⟨q.1, q.2.2⟩).2⟩
def siQ (D : va_G) (t bv cB sz n : Nat) (f : Nat → Int32) : Array Value → State → Outcome → State → Prop := va_Qv (fun _ : Nat => True) (fun tv s1 => sz ≤ tv ∧ va_P D vcl (stC t tv cB n f) s1.heap) (siA t bv sz)
set_option maxHeartbeats 1000000 in
theorem tJ3_init_2 (l : Launch) (D : va_G) (t sb bv cB sz n : Nat) (f : Nat → Int32) (hn : n < 16) (hf : ∀ i, i < n → fits .byte (.int (f i)) = true) : Met l yJ3_init_2 (ws_ yJ3_init_2 cJ3_init_2 5 none) { frames := 3, cells := 1, slots := n, locals := 110 } (va_Pc [.ref t, .ref sb, .null] (siP D t sb bv cB sz n f)) (siQ D t bv cB sz n f) 1 n (siA t bv sz) := by
  refine g_entry (by decide) (Nat.le_of_ble_eq_true rfl) ?_
  intro p e s m args below meth c ls hx hb hml hown hts hlk hr hB hl hnm
  obtain ⟨⟨hsz, hP, n1, n2, l1, l2, l3, n3⟩, hBB⟩ := id hB
  subst hsz
  have hK := hBB.2.1
  have hl : lv_has ls 5 [(0, .ref t), (1, .ref sb), (2, .null)] := hl
  have hown : s.vm.findClass RJ3 = some m.cls := hown
  have hin2 : meth.name = "<init>" := hnm
  have hP : va_P D vcl [(t, .inr (19, [.null, .int 0, .int 0, .int 0])), (bv, .inl (cB, 16, .inl f))] s.heap := fun k q hq => by
    match k, hq with
    | 0, hq => cases hq; exact hP 0 _ rfl
    | 1, hq => cases hq; exact hBB.1 1 _ rfl
  have hD : va_D (siA t bv s.heap.size) [(t, .inr (19, [.null, .int 0, .int 0, .int 0])), (bv, .inl (cB, 16, .inl f))] := vd_2 n2 (Or.inl rfl) (Or.inr (Or.inl rfl))
  have hS : va_S (siA t bv s.heap.size) s.heap s.heap [] := va_S.rf
  refine lv_aload_n hx hb dJ3_init_2_0 rfl (lv_at hl 0 rfl) ?_
  refine W.objInit hx hb hown (hts _ q389) (hts _ q107) (hts _ q108) rfl (by rw [hml]; exact hl.1) rfl dJ3_init_2_1 (Nat.le_of_ble_eq_true rfl) (Nat.le_of_ble_eq_true rfl) ?_
  refine W.eq (g2 := F0 m 4 ls []) rfl ?_
  refine lv_aload_n hx hb dJ3_init_2_4 rfl (lv_at hl 1 rfl) ?_
  refine r_call (vrun_call (va_runU (C := RJ8) (As := []) (rest := []) ⟨hx, hb, hml, hown, hts⟩ (tJ7_getValue l D sb bv cB (nI n) f) (va_cwU (owner := "java/lang/AbstractStringBuilder") 0 hts (lw_Up (x := yJ7_getValue) q390 q392 q393 q391 q74 q394) rfl rfl rfl rfl (by decide +kernel) ⟨Nat.le_of_ble_eq_true rfl, Nat.le_of_ble_eq_true rfl⟩) ⟨bB_blind, hBB.recv, fun U hU hW => ⟨rfl, hBB.at hU hW⟩⟩ rfl rfl hl.1 rfl (lv_room (Nat.le_of_ble_eq_true rfl)) dJ3_init_2_5 ⟨Nat.zero_le _, Nat.zero_le _⟩)) ?_
  refine lv_astore_n (lv' := [(3, .ref bv), (0, .ref t), (1, .ref sb), (2, .null)]) hx hb dJ3_init_2_8 rfl hl (by decide) rfl (fun ls hl => ?_)
  refine lv_aload_n hx hb dJ3_init_2_9 rfl (lv_at hl 2 rfl) ?_
  refine r_call (vrun_call (va_runU (C := RJ8) (As := []) (rest := []) ⟨hx, hb, hml, hown, hts⟩ (tJ8_length l D sb bv cB (nI n) f) (va_cwO (owner := "java/lang/AbstractStringBuilder") 0 hts (lw_O (x := yJ7_length) q395 q1762 q300 q1767 q296 q75 q298) rfl rfl rfl q301 (by decide +kernel) ⟨Nat.le_of_ble_eq_true rfl, Nat.le_of_ble_eq_true rfl⟩) ⟨bB_blind, hBB.recv, fun U hU hW => ⟨rfl, hBB.at hU hW⟩⟩ rfl rfl hl.1 rfl (lv_room (Nat.le_of_ble_eq_true rfl)) dJ3_init_2_10 ⟨Nat.zero_le _, Nat.zero_le _⟩)) ?_
  refine lv_istore (lv' := [(4, .int (nI n)), (3, .ref bv), (0, .ref t), (1, .ref sb), (2, .null)]) hx hb dJ3_init_2_13 hl (by decide) rfl (fun ls hl => ?_)
  refine lv_aload_n hx hb dJ3_init_2_15 rfl (lv_at hl 3 rfl) ?_
  refine r_call (vrun_call (va_runU (C := RJ8) (As := []) (rest := []) ⟨hx, hb, hml, hown, hts⟩ (tJ7_isLatin1 l D sb bv cB (nI n) f) (va_cwU (owner := "java/lang/AbstractStringBuilder") 0 hts (lw_Up (x := yJ7_isLatin1) q396 q346 q347 q345 q74 q348) rfl rfl rfl rfl (by decide +kernel) ⟨Nat.le_of_ble_eq_true rfl, Nat.le_of_ble_eq_true rfl⟩) ⟨bB_blind, hBB.recv, fun U hU hW => ⟨rfl, hBB.at hU hW⟩⟩ rfl rfl hl.1 rfl (lv_room (Nat.le_of_ble_eq_true rfl)) dJ3_init_2_16 ⟨Nat.zero_le _, Nat.zero_le _⟩)) ?_
  refine lv_if_eq (tgt := 41) hx hb dJ3_init_2_19 (by decide) (fun h9 => absurd h9 (by decide)) (fun _ => ?_)
  refine lv_aload_n hx hb dJ3_init_2_22 rfl (lv_at hl 2 rfl) ?_
  refine lv_iconst (v := 0) hx hb dJ3_init_2_23 (by decide) ?_
  refine va_putF (D := D) (ci := 19) (v := .int 0) (ty := tyJ3 1) (C := RJ3) (T := TJ3) (N := 4) hx hb hts in_J3 tyJ3 tyJ3_ok nmJ3 hown hK hP hD hS 0 rfl rfl 1 (by decide) (hts _ q417) (fun _ h9 => h9) rfl hin2 rfl (by decide +kernel) (rfl) (rfl) (Nat.le_of_ble_eq_true rfl) dJ3_init_2_24 (fun H locs hP hD hS => ?_)
  have hP : va_P D vcl [(t, .inr (19, [.null, .int 0, .int 0, .int 0])), (bv, .inl (cB, 16, .inl f))] H := hP
  have hD : va_D (siA t bv s.heap.size) [(t, .inr (19, [.null, .int 0, .int 0, .int 0])), (bv, .inl (cB, 16, .inl f))] := hD
  refine lv_aload_n hx hb dJ3_init_2_27 rfl (lv_at hl 2 rfl) ?_
  refine lv_aload_n hx hb dJ3_init_2_28 rfl (lv_at hl 1 rfl) ?_
  refine lv_iconst (v := 0) hx hb dJ3_init_2_29 (by decide) ?_
  refine lv_iload hx hb dJ3_init_2_30 (lv_at hl 0 rfl) ?_
  have hbv : va_P D vcl [(bv, .inl (cB, 16, .inl f))] H := hP.sub [1] rfl
  have hz1 : s.heap.size ≤ H.size := hS.1
  refine va_callr (A0 := siA t bv s.heap.size) (va_runS (As := [.ref bv, .int 0, .int (nI n)]) (rest := [.ref t]) ⟨hx, hb, hml, hown, hts⟩ (tJ11_copyOfRange l D bv cB H.size n f hn hf (Nat.lt_of_lt_of_le l2 hz1)) (va_cwS 3 hts (lw_S q397 q398 q78 q399) rfl rfl rfl (by decide +kernel) ⟨Nat.le_of_ble_eq_true rfl, Nat.le_of_ble_eq_true rfl⟩) ⟨cr_blind, fun U hU hW => ⟨rfl, ⟨by rw [hU], by rw [hU]; exact hbv⟩, va_K.moved hW.alike hK⟩⟩ rfl rfl hl.1 rfl (lv_room (Nat.le_of_ble_eq_true rfl)) dJ3_init_2_32 ⟨Nat.le_of_ble_eq_true rfl, by show 0 + n ≤ n; omega⟩) hS (fun q _ h => h.elim (fun z => Or.inr (Or.inl z)) (fun z => Or.inr (Or.inr (Nat.le_trans hz1 z)))) (fun q h => h.elim (fun z => Or.inr (Or.inl z)) (fun z => Or.inr (Or.inr (Nat.le_trans hz1 z)))) (fun b tv s1 H1 locs1 ht hvm hp hB2 hz hkp hS => ?_)
  obtain ⟨htv, hP2⟩ := hB2
  have htl : t < H.size := Nat.lt_of_lt_of_le l1 hz1
  have hP : va_P D vcl [(t, .inr (19, [.null, .int 0, .int 0, .int 0])), (tv, .inl (cB, n, .inl (va_cpy f (fun _ => 0) 0 0 n)))] H1 := fun k q hq => by
    match k, hq with
    | 0, hq => cases hq; exact (hP 0 _ rfl).kept (hkp t htl (fun z => z.elim n2 (fun z => Nat.not_le.mpr htl z)))
    | 1, hq => cases hq; rw [← ht]; exact hP2 1 _ rfl
  have hD : va_D (siA t bv s.heap.size) [(t, .inr (19, [.null, .int 0, .int 0, .int 0])), (tv, .inl (cB, n, .inl (va_cpy f (fun _ => 0) 0 0 n)))] := vd_2 (fun z => by rw [z] at htl; exact absurd htl (Nat.not_lt.mpr htv)) (Or.inl rfl) (Or.inr (Or.inr (Nat.le_trans hz1 htv)))
  refine va_putF (D := D) (ci := 19) (v := .ref tv) (ty := tyJ3 0) (C := RJ3) (T := TJ3) (N := 4) hx hb hts in_J3 tyJ3 tyJ3_ok nmJ3 hown hK hP hD hS 0 rfl rfl 0 (by decide) (hts _ q416) (fun _ h9 => h9) rfl hin2 rfl (by decide +kernel) (rfl) (rfl) (Nat.le_of_ble_eq_true rfl) dJ3_init_2_35 (fun H locs hP hD hS => ?_)
  have hP : va_P D vcl [(t, .inr (19, [.ref tv, .int 0, .int 0, .int 0])), (tv, .inl (cB, n, .inl (va_cpy f (fun _ => 0) 0 0 n)))] H := hP
  have hD : va_D (siA t bv s.heap.size) [(t, .inr (19, [.ref tv, .int 0, .int 0, .int 0])), (tv, .inl (cB, n, .inl (va_cpy f (fun _ => 0) 0 0 n)))] := hD
  refine lv_goto (tgt := 97) hx hb dJ3_init_2_38 (by decide) ?_
  refine W.widen (k := 1) (n := n) (Nat.le_of_ble_eq_true rfl) (by show 0 + n ≤ n; omega) ?_
  exact W.vret hx hb hr (fun t2 ht2 hW => ⟨⟨tv, rfl, trivial, Nat.le_trans hz1 htv, by show va_P _ _ _ t2.heap; rw [ht2]; exact hP⟩, hS.F ht2⟩) hS.2.2 dJ3_init_2_97 hlk
set_option maxHeartbeats 1000000 in
theorem tJ3_init (l : Launch) (D : va_G) (t sb bv cB sz n : Nat) (f : Nat → Int32) (hn : n < 16) (hf : ∀ i, i < n → fits .byte (.int (f i)) = true) : Met l yJ3_init (ws_ yJ3_init cJ3_init 2 none) { frames := 4, cells := 1, slots := n, locals := 134 } (va_Pc [.ref t, .ref sb] (siP D t sb bv cB sz n f)) (siQ D t bv cB sz n f) 1 n (siA t bv sz) := by
  refine g_entry (by decide) (Nat.le_of_ble_eq_true rfl) ?_
  intro p e s m args below meth c ls hx hb hml hown hts hlk hr hB hl hnm
  obtain ⟨⟨hsz, hP, hh⟩, hBB⟩ := id hB
  subst hsz
  have hl : lv_has ls 2 [(0, .ref t), (1, .ref sb)] := hl
  have hown : s.vm.findClass RJ3 = some m.cls := hown
  refine lv_aload_n hx hb dJ3_init_0 rfl (lv_at hl 0 rfl) ?_
  refine lv_aload_n hx hb dJ3_init_1 rfl (lv_at hl 1 rfl) ?_
  refine lv_null hx hb dJ3_init_2 ?_
  refine va_callv (A0 := siA t bv s.heap.size) (va_runI (As := [.ref sb, .null]) (rest := []) ⟨hx, hb, hml, hown, hts⟩ (tJ3_init_2 l D t sb bv cB s.heap.size n f hn hf) (cwI 2 hts (lw_meth q388) rfl rfl rfl (hts _ q69) (hts _ q386) (hts _ q387) rfl (by decide +kernel) ⟨Nat.le_of_ble_eq_true rfl, Nat.le_of_ble_eq_true rfl⟩) ⟨si_blind, fun U hU hW => ⟨rfl, ⟨by rw [hU], by rw [hU]; exact hP, hh⟩, hBB.at hU hW⟩⟩ rfl rfl hl.1 rfl (lv_room (Nat.le_of_ble_eq_true rfl)) dJ3_init_3 ⟨Nat.le_of_ble_eq_true rfl, by show 0 + n ≤ n; omega⟩) va_S.rf (fun q _ h => h) (fun q h => h) (fun b t2 H1 locs1 ht hvm hp hB2 hz hkp hS => ?_)
  refine W.widen (k := 1) (n := n) (Nat.le_of_ble_eq_true rfl) (by show 0 + n ≤ n; omega) ?_
  exact W.vret hx hb hr (fun t3 ht2 hW => ⟨⟨b, rfl, trivial, hB2.1, by show va_P _ _ _ t3.heap; rw [ht2, ← ht]; exact hB2.2⟩, hS.F ht2⟩) hS.2.2 dJ3_init_6 hlk
def tsP (D : va_G) (sb bv cB sz n : Nat) (f : Nat → Int32) (V : State) : Prop := (V.heap.size = sz ∧ bv < sz ∧ sb < sz ∧ sb ≠ bv) ∧ bB D sb bv cB (nI n) f V
theorem ts_blind {as : List Value} {D : va_G} {sb bv cB sz n : Nat} {f : Nat → Int32} : FrameBlind (va_Pc as (tsP D sb bv cB sz n f)) := fun a V g mk q => ⟨q.1, q.2.1, (bB_blind a V g mk ⟨q.1, q.2.2⟩).2⟩
def tsQ (D : va_G) (bv cB sz n : Nat) (f : Nat → Int32) : Array Value → State → Outcome → State → Prop := va_Qr (fun _ : Nat => True) (fun tv t s1 => sz ≤ t ∧ sz ≤ tv ∧ t ≠ tv ∧ va_P D vcl (stC t tv cB n f) s1.heap) (fun q => q = bv ∨ sz ≤ q)
set_option maxHeartbeats 1000000 in
theorem tJ8_toString (l : Launch) (D : va_G) (sb bv cB sz n : Nat) (f : Nat → Int32) (hn : n < 16) (hf : ∀ i, i < n → fits .byte (.int (f i)) = true) : Met l yJ8_toString (ws_ yJ8_toString cJ8_toString 1 (some (.object "java/lang/String"))) { frames := 5, cells := 2, slots := n + 4, locals := 155 } (va_Pc [.ref sb] (tsP D sb bv cB sz n f)) (tsQ D bv cB sz n f) 2 (n + 4) (fun q => q = bv ∨ sz ≤ q) := by
  refine g_entry (by decide) (Nat.le_of_ble_eq_true rfl) ?_
  intro p e s m args below meth c ls hx hb hml hown hts hlk hr hB hl _
  obtain ⟨⟨hsz, l2, l3, n3⟩, hBB⟩ := id hB
  subst hsz
  have hK := hBB.2.1
  have hl : lv_has ls 1 [(0, .ref sb)] := hl
  have hown : s.vm.findClass RJ8 = some m.cls := hown
  have hPz : va_P D vcl [] s.heap := fun k q h => by cases h
  have hDz : va_D (fun q => s.heap.size ≤ q) [] := ⟨fun i j p q h => by simp at h, fun k q h => by simp at h⟩
  have hS : va_S (fun q => s.heap.size ≤ q) s.heap s.heap [] := va_S.rf
  refine va_new (ci := 19) (fs := [.null, .int 0, .int 0, .int 0]) (C := RJ3) (T := TJ3) (N := 4) hx hb hts in_J3 tyJ3 tyJ3_ok hown (hts _ q381) (hts _ q382) (hts _ q69) hK hPz hDz hS (fun q h => h) rfl (fun j hj => by rcases (show j = 0 ∨ j = 1 ∨ j = 2 ∨ j = 3 by omega) with rfl | rfl | rfl | rfl <;> rfl) (Nat.le_of_ble_eq_true rfl) (by show 0 + 4 ≤ n + 4; omega) dJ8_toString_0 (fun t H hP hD hS => ?_)
  have hP : va_P D vcl [(t, .inr (19, [.null, .int 0, .int 0, .int 0]))] H := hP
  have hold : ∀ q : Nat, q < s.heap.size → H[q]? = s.heap[q]? := fun q hq => hS.2.1 q hq (Nat.not_le.mpr hq)
  have ht0 : s.heap.size ≤ t := hD.2 0 _ rfl
  have hz1 : s.heap.size ≤ H.size := hS.1
  have hS : va_S (fun q => q = bv ∨ s.heap.size ≤ q) s.heap H [] := ⟨hz1, fun q h _ => hold q h, fun l h => by cases h⟩
  have hBB2 : ∀ U : State, U.heap = H → s.WarmedH U.vm → bB D sb bv cB (nI n) f U := fun U hU hW => by
    refine ⟨?_, va_K.moved hW.alike hK, ?_, hBB.2.2.2.warm hW⟩
    · rw [hU]
      exact hBB.1.kept (fun k q hq => hold _ (hBB.1 k q hq).lt)
    · rw [hU]
      exact va_Z.moved hW.alike (va_Z.kept hBB.2.2.1 (fun q hq _ => hold q hq))
  refine lv_dup hx hb dJ8_toString_3 rfl ?_
  refine lv_aload_n hx hb dJ8_toString_4 rfl (lv_at hl 0 rfl) ?_
  have htH : t < H.size := (hP 0 _ rfl).lt
  refine va_callv (A0 := fun q => q = bv ∨ s.heap.size ≤ q) (va_runI (As := [.ref sb]) (rest := [.ref t]) ⟨hx, hb, hml, hown, hts⟩ (tJ3_init l D t sb bv cB H.size n f hn hf) (cwI 1 hts (lw_meth q385) rfl rfl rfl (hts _ q69) (hts _ q383) (hts _ q384) rfl (by decide +kernel) ⟨Nat.le_of_ble_eq_true rfl, Nat.le_of_ble_eq_true rfl⟩) ⟨si_blind, fun U hU hW => ⟨rfl, ⟨by rw [hU], by rw [hU]; exact hP, by omega, by omega, htH, by omega, by omega, n3⟩, hBB2 U hU hW⟩⟩ rfl rfl hl.1 rfl (lv_room (Nat.le_of_ble_eq_true rfl)) dJ8_toString_5 ⟨Nat.le_of_ble_eq_true rfl, by show 0 + 4 + n ≤ n + 4; omega⟩) hS (fun q _ h => h.elim (fun z => Or.inr (by rw [z]; exact ht0)) (fun z => z.elim Or.inl (fun z => Or.inr (Nat.le_trans hz1 z)))) (fun q h => h.elim (fun z => Or.inr (by rw [z]; exact ht0)) (fun z => z.elim Or.inl (fun z => Or.inr (Nat.le_trans hz1 z)))) (fun tv s1 H1 locs1 ht hvm hp hB2 hz hkp hS => ?_)
  refine W.widen (k := 2) (n := n + 4) (Nat.le_of_ble_eq_true rfl) (by show 0 + 4 + n ≤ n + 4; omega) ?_
  exact W.aret hx hb hr (Or.inl ⟨_, rfl⟩) (Or.inr ⟨_, rfl⟩) (fun t2 ht2 hW => ⟨⟨tv, t, rfl, trivial, ht0, Nat.le_trans hz1 hB2.1, (by have := hB2.1; omega), by rw [ht2, ← ht]; exact hB2.2⟩, hS.F ht2⟩) hS.2.2 dJ8_toString_8 hlk
