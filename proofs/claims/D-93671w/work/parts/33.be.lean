/-! ===== carts of a way written; Way.be; by gen/crows5.py ===== -/
set_option maxRecDepth 100000
theorem cE_putW {G ad : Nat → Nat} {F : tF} {Ar : tA} {Kd : tK} {U : tU} {i kd : Nat} {v : Int32} (h : i < 14) (hk : Kd i = some kd) : gw_set (cE G ad F Ar Kd U) (wo i) (.inr (2 + kd, [.int (F (wo i)), .ref (ad (wa i)), .int v])) = cE G ad (upd F (wa i) v) Ar Kd U := by
  funext q
  by_cases e : q = wo i
  · subst e
    rw [cE_way h hk]
    have e1 : upd F (wa i) v (wo i) = F (wo i) := by
      unfold upd
      rw [if_neg (by show ¬ 100 + 2 * i = 101 + 2 * i; omega)]
    have e2 : upd F (wa i) v (wa i) = v := by simp [upd]
    rw [e1, e2]
    simp [gw_set]
  · simp only [gw_set, if_neg e]
    by_cases e2 : q = wa i
    · subst e2
      have ha := cArr_wa (Kd := Kd) h (by rw [hk]; exact fun z => by cases z)
      rw [cE_of ha, cE_of ha]
    refine (cE_upd (fun _ => by show 32 ≤ 101 + 2 * i; omega) (fun _ => by show 101 + 2 * i ≠ 32 ∧ 101 + 2 * i ≠ 33; omega) (fun _ _ => by show 101 + 2 * i ≠ _ ∧ 101 + 2 * i ≠ _; omega) (fun h1 h2 => ?_)).symm
    exact ⟨fun z => e2 z.symm, fun z => e (by show q = 100 + 2 * i; have : 101 + 2 * i = q + 1 := z; omega)⟩
section CR5
variable {p : Program} {l : Launch} {e : Env} {R : Room} {s : State} {m : MethodId} {args : Array Value} {below : List Frame} {meth : Method} {c : Code} {H : Heap} {locs : List Loc} {cells slots : Nat} {Q : State → Prop}
variable {cc : ByteArray} {nL pc : Nat} {ls : Array Slot} {rest : List Value} {D : va_G} {A : Nat → Prop} {G ad : Nat → Nat} {H0 : Heap} {Kd : tK} {U : tU} {T : tT} {zz : Int32} {F : tF} {Ar : tA}
theorem c_wg8_number (X : cCx p s m args meth c cc nL RX8 D G) (P : cP D A G ad H0 Kd U T zz F Ar H locs) {i : Nat} (hi : Kd i ≠ none) (hdg : decode cc pc = .ok (.getfield 15, 3)) (kk : W p l e R s m args below meth c H locs cells slots Q (F0 m (pc + 3) ls (.int (F (wo i)) :: rest))) : W p l e R s m args below meth c H locs cells slots Q (F0 m pc ls (.ref (ad (wo i)) :: rest)) := by
  obtain ⟨hx, hb, hml, hown, hts, hK, hlk, hN⟩ := X
  obtain ⟨kd, hk, h6, h14⟩ := P.2.2.2.1.kd hi
  have he := cE_way (G := G) (ad := ad) (F := F) (Ar := Ar) (U := U) h14 hk
  rcases lt6 h6 with h | h | h | h | h | h <;> subst h
  · exact gw_get hx hb hts in_X8 hown hK P.1 he rfl 0 (by decide) (hts _ q808) (fun _ h => h) rfl hdg kk
  · exact gw_get hx hb hts in_X9 hown hK P.1 he rfl 0 (by decide) (hts _ q808) (fun _ h => h) rfl hdg kk
  · exact gw_get hx hb hts in_X10 hown hK P.1 he rfl 0 (by decide) (hts _ q808) (fun _ h => h) rfl hdg kk
  · exact gw_get hx hb hts in_X11 hown hK P.1 he rfl 0 (by decide) (hts _ q808) (fun _ h => h) rfl hdg kk
  · exact gw_get hx hb hts in_X12 hown hK P.1 he rfl 0 (by decide) (hts _ q808) (fun _ h => h) rfl hdg kk
  · exact gw_get hx hb hts in_X13 hown hK P.1 he rfl 0 (by decide) (hts _ q808) (fun _ h => h) rfl hdg kk

theorem c_wg8_choice (X : cCx p s m args meth c cc nL RX8 D G) (P : cP D A G ad H0 Kd U T zz F Ar H locs) {i : Nat} (hi : Kd i ≠ none) (hdg : decode cc pc = .ok (.getfield 9, 3)) (kk : W p l e R s m args below meth c H locs cells slots Q (F0 m (pc + 3) ls (.ref (ad (wa i)) :: rest))) : W p l e R s m args below meth c H locs cells slots Q (F0 m pc ls (.ref (ad (wo i)) :: rest)) := by
  obtain ⟨hx, hb, hml, hown, hts, hK, hlk, hN⟩ := X
  obtain ⟨kd, hk, h6, h14⟩ := P.2.2.2.1.kd hi
  have he := cE_way (G := G) (ad := ad) (F := F) (Ar := Ar) (U := U) h14 hk
  rcases lt6 h6 with h | h | h | h | h | h <;> subst h
  · exact gw_get hx hb hts in_X8 hown hK P.1 he rfl 1 (by decide) (hts _ q810) (fun _ h => h) rfl hdg kk
  · exact gw_get hx hb hts in_X9 hown hK P.1 he rfl 1 (by decide) (hts _ q810) (fun _ h => h) rfl hdg kk
  · exact gw_get hx hb hts in_X10 hown hK P.1 he rfl 1 (by decide) (hts _ q810) (fun _ h => h) rfl hdg kk
  · exact gw_get hx hb hts in_X11 hown hK P.1 he rfl 1 (by decide) (hts _ q810) (fun _ h => h) rfl hdg kk
  · exact gw_get hx hb hts in_X12 hown hK P.1 he rfl 1 (by decide) (hts _ q810) (fun _ h => h) rfl hdg kk
  · exact gw_get hx hb hts in_X13 hown hK P.1 he rfl 1 (by decide) (hts _ q810) (fun _ h => h) rfl hdg kk

theorem c_wg8_carts (X : cCx p s m args meth c cc nL RX8 D G) (P : cP D A G ad H0 Kd U T zz F Ar H locs) {i : Nat} (hi : Kd i ≠ none) (hdg : decode cc pc = .ok (.getfield 19, 3)) (kk : W p l e R s m args below meth c H locs cells slots Q (F0 m (pc + 3) ls (.int (F (wa i)) :: rest))) : W p l e R s m args below meth c H locs cells slots Q (F0 m pc ls (.ref (ad (wo i)) :: rest)) := by
  obtain ⟨hx, hb, hml, hown, hts, hK, hlk, hN⟩ := X
  obtain ⟨kd, hk, h6, h14⟩ := P.2.2.2.1.kd hi
  have he := cE_way (G := G) (ad := ad) (F := F) (Ar := Ar) (U := U) h14 hk
  rcases lt6 h6 with h | h | h | h | h | h <;> subst h
  · exact gw_get hx hb hts in_X8 hown hK P.1 he rfl 2 (by decide) (hts _ q812) (fun _ h => h) rfl hdg kk
  · exact gw_get hx hb hts in_X9 hown hK P.1 he rfl 2 (by decide) (hts _ q812) (fun _ h => h) rfl hdg kk
  · exact gw_get hx hb hts in_X10 hown hK P.1 he rfl 2 (by decide) (hts _ q812) (fun _ h => h) rfl hdg kk
  · exact gw_get hx hb hts in_X11 hown hK P.1 he rfl 2 (by decide) (hts _ q812) (fun _ h => h) rfl hdg kk
  · exact gw_get hx hb hts in_X12 hown hK P.1 he rfl 2 (by decide) (hts _ q812) (fun _ h => h) rfl hdg kk
  · exact gw_get hx hb hts in_X13 hown hK P.1 he rfl 2 (by decide) (hts _ q812) (fun _ h => h) rfl hdg kk

theorem c_wp8_carts (X : cCx p s m args meth c cc nL RX8 D G) (P : cP D A G ad H0 Kd U T zz F Ar H locs) {i : Nat} (hi : Kd i ≠ none) {v : Int32} (hdg : decode cc pc = .ok (.putfield 19, 3)) (kk : ∀ (F1 : tF) (H1 : Heap) (locs1 : List Loc), F1 = upd F (wa i) v → cP D A G ad H0 Kd U T zz F1 Ar H1 locs1 → H1.size = H.size → W p l e R s m args below meth c H1 locs1 cells slots Q (F0 m (pc + 3) ls rest)) : W p l e R s m args below meth c H locs cells slots Q (F0 m pc ls (.int v :: .ref (ad (wo i)) :: rest)) := by
  obtain ⟨hx, hb, hml, hown, hts, hK, hlk, hN⟩ := X
  obtain ⟨kd, hk, h6, h14⟩ := P.2.2.2.1.kd hi
  have he := cE_way (G := G) (ad := ad) (F := F) (Ar := Ar) (U := U) h14 hk
  have fin : ∀ (H1 : Heap) (locs1 : List Loc), gw_P D vcl ad (gw_set (cE G ad F Ar Kd U) (wo i) (.inr (2 + kd, [.int (F (wo i)), .ref (ad (wa i)), .int v]))) H1 → gw_D A ad (gw_set (cE G ad F Ar Kd U) (wo i) (.inr (2 + kd, [.int (F (wo i)), .ref (ad (wa i)), .int v]))) → va_S A H0 H1 locs1 → H1.size = H.size → W p l e R s m args below meth c H1 locs1 cells slots Q (F0 m (pc + 3) ls rest) := by
    intro H1 locs1 hP hD hS hz
    rw [cE_putW h14 hk] at hP hD
    exact kk _ H1 locs1 rfl ⟨hP, hD, hS, P.updF (by show 101 + 2 * i ≠ 32; omega) (by show 101 + 2 * i ≠ 28; omega)⟩ hz
  rcases lt6 h6 with h | h | h | h | h | h <;> subst h
  · exact gw_put hx hb hts in_X8 tyX8 tyX8_ok nmX8 hown hK P.1 P.2.1 P.2.2.1 he rfl 2 (by decide) (hts _ q812) (fun _ h => h) rfl (ty := .int) (by decide +kernel) rfl rfl (by simp) hdg fin
  · exact gw_put hx hb hts in_X9 tyX9 tyX9_ok nmX9 hown hK P.1 P.2.1 P.2.2.1 he rfl 2 (by decide) (hts _ q812) (fun _ h => h) rfl (ty := .int) (by decide +kernel) rfl rfl (by simp) hdg fin
  · exact gw_put hx hb hts in_X10 tyX10 tyX10_ok nmX10 hown hK P.1 P.2.1 P.2.2.1 he rfl 2 (by decide) (hts _ q812) (fun _ h => h) rfl (ty := .int) (by decide +kernel) rfl rfl (by simp) hdg fin
  · exact gw_put hx hb hts in_X11 tyX11 tyX11_ok nmX11 hown hK P.1 P.2.1 P.2.2.1 he rfl 2 (by decide) (hts _ q812) (fun _ h => h) rfl (ty := .int) (by decide +kernel) rfl rfl (by simp) hdg fin
  · exact gw_put hx hb hts in_X12 tyX12 tyX12_ok nmX12 hown hK P.1 P.2.1 P.2.2.1 he rfl 2 (by decide) (hts _ q812) (fun _ h => h) rfl (ty := .int) (by decide +kernel) rfl rfl (by simp) hdg fin
  · exact gw_put hx hb hts in_X13 tyX13 tyX13_ok nmX13 hown hK P.1 P.2.1 P.2.2.1 he rfl 2 (by decide) (hts _ q812) (fun _ h => h) rfl (ty := .int) (by decide +kernel) rfl rfl (by simp) hdg fin

theorem c_wp_carts (X : cCx p s m args meth c cc nL RX0 D G) (P : cP D A G ad H0 Kd U T zz F Ar H locs) {i : Nat} (hi : Kd i ≠ none) {v : Int32} (hdg : decode cc pc = .ok (.putfield 174, 3)) (kk : ∀ (F1 : tF) (H1 : Heap) (locs1 : List Loc), F1 = upd F (wa i) v → cP D A G ad H0 Kd U T zz F1 Ar H1 locs1 → H1.size = H.size → W p l e R s m args below meth c H1 locs1 cells slots Q (F0 m (pc + 3) ls rest)) : W p l e R s m args below meth c H locs cells slots Q (F0 m pc ls (.int v :: .ref (ad (wo i)) :: rest)) := by
  obtain ⟨hx, hb, hml, hown, hts, hK, hlk, hN⟩ := X
  obtain ⟨kd, hk, h6, h14⟩ := P.2.2.2.1.kd hi
  have he := cE_way (G := G) (ad := ad) (F := F) (Ar := Ar) (U := U) h14 hk
  have fin : ∀ (H1 : Heap) (locs1 : List Loc), gw_P D vcl ad (gw_set (cE G ad F Ar Kd U) (wo i) (.inr (2 + kd, [.int (F (wo i)), .ref (ad (wa i)), .int v]))) H1 → gw_D A ad (gw_set (cE G ad F Ar Kd U) (wo i) (.inr (2 + kd, [.int (F (wo i)), .ref (ad (wa i)), .int v]))) → va_S A H0 H1 locs1 → H1.size = H.size → W p l e R s m args below meth c H1 locs1 cells slots Q (F0 m (pc + 3) ls rest) := by
    intro H1 locs1 hP hD hS hz
    rw [cE_putW h14 hk] at hP hD
    exact kk _ H1 locs1 rfl ⟨hP, hD, hS, P.updF (by show 101 + 2 * i ≠ 32; omega) (by show 101 + 2 * i ≠ 28; omega)⟩ hz
  rcases lt6 h6 with h | h | h | h | h | h <;> subst h
  · exact gw_put hx hb hts in_X8 tyX8 tyX8_ok nmX8 hown hK P.1 P.2.1 P.2.2.1 he rfl 2 (by decide) (hts _ q813) (fun _ h => h) rfl (ty := .int) (by decide +kernel) rfl rfl (by simp) hdg fin
  · exact gw_put hx hb hts in_X9 tyX9 tyX9_ok nmX9 hown hK P.1 P.2.1 P.2.2.1 he rfl 2 (by decide) (hts _ q813) (fun _ h => h) rfl (ty := .int) (by decide +kernel) rfl rfl (by simp) hdg fin
  · exact gw_put hx hb hts in_X10 tyX10 tyX10_ok nmX10 hown hK P.1 P.2.1 P.2.2.1 he rfl 2 (by decide) (hts _ q813) (fun _ h => h) rfl (ty := .int) (by decide +kernel) rfl rfl (by simp) hdg fin
  · exact gw_put hx hb hts in_X11 tyX11 tyX11_ok nmX11 hown hK P.1 P.2.1 P.2.2.1 he rfl 2 (by decide) (hts _ q813) (fun _ h => h) rfl (ty := .int) (by decide +kernel) rfl rfl (by simp) hdg fin
  · exact gw_put hx hb hts in_X12 tyX12 tyX12_ok nmX12 hown hK P.1 P.2.1 P.2.2.1 he rfl 2 (by decide) (hts _ q813) (fun _ h => h) rfl (ty := .int) (by decide +kernel) rfl rfl (by simp) hdg fin
  · exact gw_put hx hb hts in_X13 tyX13 tyX13_ok nmX13 hown hK P.1 P.2.1 P.2.2.1 he rfl 2 (by decide) (hts _ q813) (fun _ h => h) rfl (ty := .int) (by decide +kernel) rfl rfl (by simp) hdg fin

theorem c_copyb8 (X : cCx p s m args meth c cc nL RX8 D G) (P : cP D A G ad H0 Kd U T zz F Ar H locs) {k0 k1 n0 n1 : Nat} (h0 : cArr Kd k0 = some (1, n0)) (h1 : cArr Kd k1 = some (1, n1)) {sp dp n : Int32} (hh : (¬ sp < 0 ∧ ¬ dp < 0 ∧ ¬ n < 0) ∧ sp.toNatClampNeg + n.toNatClampNeg ≤ n0 ∧ dp.toNatClampNeg + n.toNatClampNeg ≤ n1) (hf : ∀ i, i < n.toNatClampNeg → fits .byte (.int (Ar k0 (sp.toNatClampNeg + i))) = true) (hR : 1 ≤ R.frames ∧ 60 ≤ R.locals) (hls : ls.size = nL) (hst : (rest.map fun v => v.category).sum ≤ 8) (hdg : decode cc pc = .ok (.invokestatic 22, 3))
    (kk : ∀ (A1 : tA) (H1 : Heap) (locs1 : List Loc), A1 = aput Ar k1 (va_cpy (Ar k0) (Ar k1) sp.toNatClampNeg dp.toNatClampNeg n.toNatClampNeg) → cP D A G ad H0 Kd U T zz F A1 H1 locs1 → H1.size = H.size → W p l e R s m args below meth c H1 locs1 cells slots Q (F0 m (pc + 3) ls rest)) : W p l e R s m args below meth c H locs cells slots Q (F0 m pc ls (.int n :: .int dp :: .ref (ad k1) :: .int sp :: .ref (ad k0) :: rest)) := by
  obtain ⟨hx, hb, hml, hown, hts, hK, hlk, hN⟩ := X
  have hw : nativeFrameWords "java/lang/System" "arraycopy" 5 + 11 ≤ 52 := by decide +kernel
  refine gw_copyi hx hb (by rw [hml, hls]) hown (hts _ q1144) (hts _ q343) (hts _ q342) (hts _ q79) hK P.1 P.2.1 P.2.2.1 1 1 (cE_of h0) (cE_of h1) rfl rfl rfl hh.1.1 hh.1.2.1 hh.1.2.2 hh.2.1 hh.2.2 hf hR.1 (by omega) hdg ?_
  intro H1 locs1 hP hD hS hz
  rw [cE_arr h1] at hP hD
  exact kk _ H1 locs1 rfl ⟨hP, hD, hS, P.2.2.2⟩ hz
end CR5
/-- Way.be: carts and choices of another -/
def beF (F : tF) (i w : Nat) : tF := upd F (wa i) (F (wa w))
def beA (Ar : tA) (i w : Nat) : tA := aput Ar (wa i) (va_cpy (Ar (wa w)) (Ar (wa i)) 0 0 16)
set_option maxHeartbeats 4000000 in
theorem tX8_be (l : Launch) (D : va_G) (G ad : Nat → Nat) (Kd : tK) (U : tU) (T : tT) (zz : Int32) (F : tF) (Ar : tA) (i w : Nat) (hi : Kd i ≠ none) (hw : Kd w ≠ none) (hf : ∀ j, j < 16 → fits .byte (.int (Ar (wa w) j)) = true) (sz : Nat) (Q : tF → tA → Prop) (hq : Q (beF F i w) (beA Ar i w)) : Met l yX8_be (ws_ yX8_be cX8_be 2 none) { frames := 1, cells := 0, slots := 0, locals := 60 } (va_Pc [.ref (ad (wo i)), .ref (ad (wo w))] (cPb D G ad Kd U T zz F Ar sz)) (cQv D G ad Kd U T zz sz Q) 0 0 (cReg G ad Kd U zz sz) := by
  refine c_entry (by decide) (Nat.le_of_ble_eq_true rfl) ?_
  intro p e s m args below meth c ls X hr hsz P hl
  subst hsz
  have X : cCx p s m args meth c cX8_be 2 RX8 D G := X
  obtain ⟨hx, hb, hml, hown, hts, -, hlk, -⟩ := id X
  have hl : lv_has ls 2 [(0, .ref (ad (wo i))), (1, .ref (ad (wo w)))] := hl
  refine lv_aload_n hx hb dX8_be_0 rfl (lv_at hl 0 rfl) ?_
  refine lv_aload_n hx hb dX8_be_1 rfl (lv_at hl 1 rfl) ?_
  refine c_wg8_carts X P hw dX8_be_2 ?_
  refine c_wp8_carts X P hi dX8_be_5 (fun F1 H locs eF P _ => ?_)
  refine lv_aload_n hx hb dX8_be_8 rfl (lv_at hl 1 rfl) ?_
  refine c_wg8_choice X P hw dX8_be_9 ?_
  refine lv_iconst (v := 0) hx hb dX8_be_12 (by decide) ?_
  refine lv_aload_n hx hb dX8_be_13 rfl (lv_at hl 0 rfl) ?_
  refine c_wg8_choice X P hi dX8_be_14 ?_
  refine lv_iconst (v := 0) hx hb dX8_be_17 (by decide) ?_
  refine lv_bipush (v := 16) hx hb dX8_be_18 (by decide) ?_
  have e0 : (0 : Int32).toNatClampNeg = 0 := by decide
  have e16 : (16 : Int32).toNatClampNeg = 16 := by decide
  refine c_copyb8 X P (c_warr P hw) (c_warr P hi) (by rw [e0, e16]; decide) (by rw [e0, e16]; intro j hj; rw [Nat.zero_add]; exact hf j hj) ⟨Nat.le_of_ble_eq_true rfl, Nat.le_of_ble_eq_true rfl⟩ hl.1 (Nat.le_of_ble_eq_true rfl) dX8_be_20 (fun A1 H locs eA P _ => ?_)
  rw [e0, e16] at eA
  subst eF
  subst eA
  exact c_vret X P hr hq dX8_be_23

