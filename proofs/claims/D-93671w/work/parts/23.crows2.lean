/-! ===== rows on ways, lists, sheets over the class's world; by gen/crows2.py ===== -/
set_option maxRecDepth 100000
theorem cArr_wo {Kd : tK} {i : Nat} (h : i < 14) : cArr Kd (wo i) = none := by
  unfold cArr
  rw [if_neg (by show ¬ 100 + 2 * i < 100; omega), if_pos (by show 100 + 2 * i < 128; omega), if_neg (by show ¬ (100 + 2 * i) % 2 = 1; omega)]
theorem cE_way {G ad : Nat → Nat} {F : tF} {Ar : tA} {Kd : tK} {U : tU} {i kd : Nat} (h : i < 14) (hk : Kd i = some kd) : cE G ad F Ar Kd U (wo i) = some (.inr (2 + kd, [.int (F (wo i)), .ref (ad (wa i)), .int (F (wa i))])) := by
  rw [cE_ob (cArr_wo h)]
  unfold cOb
  have e1 : (100 + 2 * i - 100) / 2 = i := by omega
  have e2 : 100 + 2 * i + 1 = 101 + 2 * i := by omega
  rw [if_neg (by show ¬ 100 + 2 * i = 0; omega), if_neg (by show ¬ 100 + 2 * i = 9; omega), if_neg (by show ¬ 100 + 2 * i = 19; omega), if_neg (by show ¬ 100 + 2 * i = 28; omega), if_neg (by show ¬ 100 + 2 * i = 32; omega), if_neg (by show ¬ 100 + 2 * i = 33; omega), if_neg (by show ¬ (40 ≤ 100 + 2 * i ∧ 100 + 2 * i < 44); omega), if_pos (by show 100 ≤ 100 + 2 * i ∧ 100 + 2 * i < 128; omega), if_pos (by show (100 + 2 * i) % 2 = 0; omega)]
  show Option.map _ (Kd ((100 + 2 * i - 100) / 2)) = _
  rw [e1, hk]
  show some (Sum.inr (2 + kd, [Value.int (F (100 + 2 * i)), Value.ref (ad (100 + 2 * i + 1)), Value.int (F (100 + 2 * i + 1))])) = _
  rw [e2]
theorem cArr_wa {Kd : tK} {i : Nat} (h : i < 14) (hk : Kd i ≠ none) : cArr Kd (wa i) = some (1, 16) := by
  unfold cArr
  have e1 : (101 + 2 * i - 100) / 2 = i := by omega
  rw [if_neg (by show ¬ 101 + 2 * i < 100; omega), if_pos (by show 101 + 2 * i < 128; omega), if_pos (by show (101 + 2 * i) % 2 = 1; omega)]
  show Option.map _ (Kd ((101 + 2 * i - 100) / 2)) = _
  rw [e1]
  cases h2 : Kd i with
  | none => exact absurd h2 hk
  | some k => rfl
theorem cWf.kd {F : tF} {Kd : tK} (h : cWf F Kd) {i : Nat} (hi : Kd i ≠ none) : ∃ k, Kd i = some k ∧ k < 6 ∧ i < 14 := by
  cases h2 : Kd i with
  | none => exact absurd h2 hi
  | some k => exact ⟨k, rfl, h.2.2.2 i k h2⟩
theorem lt6 {k : Nat} (h : k < 6) : k = 0 ∨ k = 1 ∨ k = 2 ∨ k = 3 ∨ k = 4 ∨ k = 5 := by omega
def keyV (kd : Nat) (x y z : Int32) : Int32 := match kd with
  | 2 => x
  | 3 => (5 * x + 3) - (5 * x + 3) / 17 * 17
  | 4 => -y
  | 5 => y - 3 * z
  | _ => y
def paysV (kd : Nat) (x : Int32) : Int32 := match kd with
  | 1 => x
  | 5 => x / 2
  | _ => 0
def sparesV (kd : Nat) (x : Int32) : Int32 := match kd with
  | 4 => if x ≤ 4 then 0 else 2
  | _ => 0
def kindV (kd : Nat) : Int32 := match kd with
  | 0 => 0
  | 1 => 1
  | 2 => 2
  | 3 => 3
  | 4 => 4
  | _ => 5
def kdOf (Kd : tK) (i : Nat) : Nat := (Kd i).getD 0
section CR2
variable {p : Program} {l : Launch} {e : Env} {R : Room} {s : State} {m : MethodId} {args : Array Value} {below : List Frame} {meth : Method} {c : Code} {H : Heap} {locs : List Loc} {cells slots : Nat} {Q : State → Prop}
variable {cc : ByteArray} {nL pc : Nat} {ls : Array Slot} {rest : List Value} {D : va_G} {A : Nat → Prop} {G ad : Nat → Nat} {H0 : Heap} {Kd : tK} {U : tU} {T : tT} {zz : Int32} {F : tF} {Ar : tA}
theorem c_wg_number (X : cCx p s m args meth c cc nL RX0 D G) (P : cP D A G ad H0 Kd U T zz F Ar H locs) {i : Nat} (hi : Kd i ≠ none) (hdg : decode cc pc = .ok (.getfield 240, 3)) (kk : W p l e R s m args below meth c H locs cells slots Q (F0 m (pc + 3) ls (.int (F (wo i)) :: rest))) : W p l e R s m args below meth c H locs cells slots Q (F0 m pc ls (.ref (ad (wo i)) :: rest)) := by
  obtain ⟨hx, hb, hml, hown, hts, hK, hlk, hN⟩ := X
  obtain ⟨kd, hk, h6, h14⟩ := P.2.2.2.1.kd hi
  have he := cE_way (G := G) (ad := ad) (F := F) (Ar := Ar) (U := U) h14 hk
  rcases lt6 h6 with h | h | h | h | h | h <;> subst h
  · exact gw_get hx hb hts in_X8 hown hK P.1 he rfl 0 (by decide) (hts _ q809) (fun _ h => h) rfl hdg kk
  · exact gw_get hx hb hts in_X9 hown hK P.1 he rfl 0 (by decide) (hts _ q809) (fun _ h => h) rfl hdg kk
  · exact gw_get hx hb hts in_X10 hown hK P.1 he rfl 0 (by decide) (hts _ q809) (fun _ h => h) rfl hdg kk
  · exact gw_get hx hb hts in_X11 hown hK P.1 he rfl 0 (by decide) (hts _ q809) (fun _ h => h) rfl hdg kk
  · exact gw_get hx hb hts in_X12 hown hK P.1 he rfl 0 (by decide) (hts _ q809) (fun _ h => h) rfl hdg kk
  · exact gw_get hx hb hts in_X13 hown hK P.1 he rfl 0 (by decide) (hts _ q809) (fun _ h => h) rfl hdg kk

theorem c_wg_choice (X : cCx p s m args meth c cc nL RX0 D G) (P : cP D A G ad H0 Kd U T zz F Ar H locs) {i : Nat} (hi : Kd i ≠ none) (hdg : decode cc pc = .ok (.getfield 175, 3)) (kk : W p l e R s m args below meth c H locs cells slots Q (F0 m (pc + 3) ls (.ref (ad (wa i)) :: rest))) : W p l e R s m args below meth c H locs cells slots Q (F0 m pc ls (.ref (ad (wo i)) :: rest)) := by
  obtain ⟨hx, hb, hml, hown, hts, hK, hlk, hN⟩ := X
  obtain ⟨kd, hk, h6, h14⟩ := P.2.2.2.1.kd hi
  have he := cE_way (G := G) (ad := ad) (F := F) (Ar := Ar) (U := U) h14 hk
  rcases lt6 h6 with h | h | h | h | h | h <;> subst h
  · exact gw_get hx hb hts in_X8 hown hK P.1 he rfl 1 (by decide) (hts _ q811) (fun _ h => h) rfl hdg kk
  · exact gw_get hx hb hts in_X9 hown hK P.1 he rfl 1 (by decide) (hts _ q811) (fun _ h => h) rfl hdg kk
  · exact gw_get hx hb hts in_X10 hown hK P.1 he rfl 1 (by decide) (hts _ q811) (fun _ h => h) rfl hdg kk
  · exact gw_get hx hb hts in_X11 hown hK P.1 he rfl 1 (by decide) (hts _ q811) (fun _ h => h) rfl hdg kk
  · exact gw_get hx hb hts in_X12 hown hK P.1 he rfl 1 (by decide) (hts _ q811) (fun _ h => h) rfl hdg kk
  · exact gw_get hx hb hts in_X13 hown hK P.1 he rfl 1 (by decide) (hts _ q811) (fun _ h => h) rfl hdg kk

theorem c_wg_carts (X : cCx p s m args meth c cc nL RX0 D G) (P : cP D A G ad H0 Kd U T zz F Ar H locs) {i : Nat} (hi : Kd i ≠ none) (hdg : decode cc pc = .ok (.getfield 174, 3)) (kk : W p l e R s m args below meth c H locs cells slots Q (F0 m (pc + 3) ls (.int (F (wa i)) :: rest))) : W p l e R s m args below meth c H locs cells slots Q (F0 m pc ls (.ref (ad (wo i)) :: rest)) := by
  obtain ⟨hx, hb, hml, hown, hts, hK, hlk, hN⟩ := X
  obtain ⟨kd, hk, h6, h14⟩ := P.2.2.2.1.kd hi
  have he := cE_way (G := G) (ad := ad) (F := F) (Ar := Ar) (U := U) h14 hk
  rcases lt6 h6 with h | h | h | h | h | h <;> subst h
  · exact gw_get hx hb hts in_X8 hown hK P.1 he rfl 2 (by decide) (hts _ q813) (fun _ h => h) rfl hdg kk
  · exact gw_get hx hb hts in_X9 hown hK P.1 he rfl 2 (by decide) (hts _ q813) (fun _ h => h) rfl hdg kk
  · exact gw_get hx hb hts in_X10 hown hK P.1 he rfl 2 (by decide) (hts _ q813) (fun _ h => h) rfl hdg kk
  · exact gw_get hx hb hts in_X11 hown hK P.1 he rfl 2 (by decide) (hts _ q813) (fun _ h => h) rfl hdg kk
  · exact gw_get hx hb hts in_X12 hown hK P.1 he rfl 2 (by decide) (hts _ q813) (fun _ h => h) rfl hdg kk
  · exact gw_get hx hb hts in_X13 hown hK P.1 he rfl 2 (by decide) (hts _ q813) (fun _ h => h) rfl hdg kk

theorem c_v_kind (X : cCx p s m args meth c cc nL RX0 D G) (P : cP D A G ad H0 Kd U T zz F Ar H locs) {i : Nat} (hi : Kd i ≠ none) (hR : 2 ≤ R.frames ∧ 40 ≤ R.locals) (hls : ls.size = nL) (hst : (rest.map fun v => v.category).sum ≤ 8) (hcs : cells ≤ R.cells ∧ slots ≤ R.slots) (hdg : decode cc pc = .ok (.invokevirtual 250, 3)) (kk : W p l e R s m args below meth c H locs cells slots Q (F0 m (pc + 3) ls (.int (kindV (kdOf Kd i)) :: rest))) : W p l e R s m args below meth c H locs cells slots Q (F0 m pc ls (.ref (ad (wo i)) :: rest)) := by
  obtain ⟨hx, hb, hml, hown, hts, hK, hlk, hN⟩ := X
  obtain ⟨kd, hk, h6, h14⟩ := P.2.2.2.1.kd hi
  have he := cE_way (G := G) (ad := ad) (F := F) (Ar := Ar) (U := U) h14 hk
  have hP1 := gw_one P.1 he
  have hK1 := hK.sub (tys' := []) [] rfl
  have hkd : kdOf Kd i = kd := by unfold kdOf; rw [hk]; rfl
  rw [hkd] at kk
  rcases lt6 h6 with h | h | h | h | h | h <;> subst h
  · refine r_call (vrun_call (va_runV (C := "GateRoad$Way") (As := []) (rest := rest) ⟨hx, hb, hml, hown, hts⟩ (tX8_kind l D (ad (wo i)) 2 "GateRoad$Way" TX8 3 rfl _ ) (cwV 0 hts (lw_V q943 q944 q945 q89 q964) rfl rfl rfl (by decide +kernel) ⟨Nat.le_trans (Nat.le_of_ble_eq_true rfl) hR.1, Nat.le_trans (Nat.le_of_ble_eq_true rfl) hR.2⟩) ⟨blindK, va_recv hK1 hP1 (ci := 2) (q0 := 0) rfl rfl, fun U hU hW => ⟨rfl, by rw [hU]; exact hP1, va_K.moved hW.alike hK1⟩⟩ rfl rfl hls rfl (lv_room hst) hdg hcs)) ?_
    exact kk
  · refine r_call (vrun_call (va_runU (C := "GateRoad$Tolled") (As := []) (rest := rest) ⟨hx, hb, hml, hown, hts⟩ (tX9_kind l D (ad (wo i)) 3 "GateRoad$Tolled" TX9 3 rfl _ ) (va_cwO (owner := "GateRoad$Way") 0 hts (lw_O (x := yX8_kind) q943 q946 q944 q963 q961 q90 q962) rfl rfl rfl q964 (by decide +kernel) ⟨Nat.le_trans (Nat.le_of_ble_eq_true rfl) hR.1, Nat.le_trans (Nat.le_of_ble_eq_true rfl) hR.2⟩) ⟨blindK, va_recv hK1 hP1 (ci := 3) (q0 := 0) rfl rfl, fun U hU hW => ⟨rfl, by rw [hU]; exact hP1, va_K.moved hW.alike hK1⟩⟩ rfl rfl hls rfl (lv_room hst) hdg hcs)) ?_
    exact kk
  · refine r_call (vrun_call (va_runU (C := "GateRoad$Numbered") (As := []) (rest := rest) ⟨hx, hb, hml, hown, hts⟩ (tX10_kind l D (ad (wo i)) 4 "GateRoad$Numbered" TX10 3 rfl _ ) (va_cwO (owner := "GateRoad$Way") 0 hts (lw_O (x := yX8_kind) q943 q946 q944 q956 q951 q91 q952) rfl rfl rfl q964 (by decide +kernel) ⟨Nat.le_trans (Nat.le_of_ble_eq_true rfl) hR.1, Nat.le_trans (Nat.le_of_ble_eq_true rfl) hR.2⟩) ⟨blindK, va_recv hK1 hP1 (ci := 4) (q0 := 0) rfl rfl, fun U hU hW => ⟨rfl, by rw [hU]; exact hP1, va_K.moved hW.alike hK1⟩⟩ rfl rfl hls rfl (lv_room hst) hdg hcs)) ?_
    exact kk
  · refine r_call (vrun_call (va_runU (C := "GateRoad$Drawn") (As := []) (rest := rest) ⟨hx, hb, hml, hown, hts⟩ (tX11_kind l D (ad (wo i)) 5 "GateRoad$Drawn" TX11 3 rfl _ ) (va_cwO (owner := "GateRoad$Way") 0 hts (lw_O (x := yX8_kind) q943 q946 q944 q947 q948 q92 q949) rfl rfl rfl q964 (by decide +kernel) ⟨Nat.le_trans (Nat.le_of_ble_eq_true rfl) hR.1, Nat.le_trans (Nat.le_of_ble_eq_true rfl) hR.2⟩) ⟨blindK, va_recv hK1 hP1 (ci := 5) (q0 := 0) rfl rfl, fun U hU hW => ⟨rfl, by rw [hU]; exact hP1, va_K.moved hW.alike hK1⟩⟩ rfl rfl hls rfl (lv_room hst) hdg hcs)) ?_
    exact kk
  · refine r_call (vrun_call (va_runU (C := "GateRoad$Last") (As := []) (rest := rest) ⟨hx, hb, hml, hown, hts⟩ (tX12_kind l D (ad (wo i)) 6 "GateRoad$Last" TX12 3 rfl _ ) (va_cwO (owner := "GateRoad$Way") 0 hts (lw_O (x := yX8_kind) q943 q946 q944 q953 q954 q93 q955) rfl rfl rfl q964 (by decide +kernel) ⟨Nat.le_trans (Nat.le_of_ble_eq_true rfl) hR.1, Nat.le_trans (Nat.le_of_ble_eq_true rfl) hR.2⟩) ⟨blindK, va_recv hK1 hP1 (ci := 6) (q0 := 0) rfl rfl, fun U hU hW => ⟨rfl, by rw [hU]; exact hP1, va_K.moved hW.alike hK1⟩⟩ rfl rfl hls rfl (lv_room hst) hdg hcs)) ?_
    exact kk
  · refine r_call (vrun_call (va_runU (C := "GateRoad$Sorted") (As := []) (rest := rest) ⟨hx, hb, hml, hown, hts⟩ (tX13_kind l D (ad (wo i)) 7 "GateRoad$Sorted" TX13 3 rfl _ ) (va_cwO (owner := "GateRoad$Way") 0 hts (lw_O (x := yX8_kind) q943 q946 q944 q957 q958 q94 q959) rfl rfl rfl q964 (by decide +kernel) ⟨Nat.le_trans (Nat.le_of_ble_eq_true rfl) hR.1, Nat.le_trans (Nat.le_of_ble_eq_true rfl) hR.2⟩) ⟨blindK, va_recv hK1 hP1 (ci := 7) (q0 := 0) rfl rfl, fun U hU hW => ⟨rfl, by rw [hU]; exact hP1, va_K.moved hW.alike hK1⟩⟩ rfl rfl hls rfl (lv_room hst) hdg hcs)) ?_
    exact kk

theorem c_v_key (X : cCx p s m args meth c cc nL RX0 D G) (P : cP D A G ad H0 Kd U T zz F Ar H locs) {i : Nat} (hi : Kd i ≠ none) {x : Int32} {y : Int32} {z : Int32} (hR : 2 ≤ R.frames ∧ 46 ≤ R.locals) (hls : ls.size = nL) (hst : (rest.map fun v => v.category).sum ≤ 8) (hcs : cells ≤ R.cells ∧ slots ≤ R.slots) (hdg : decode cc pc = .ok (.invokevirtual 193, 3)) (kk : W p l e R s m args below meth c H locs cells slots Q (F0 m (pc + 3) ls (.int (keyV (kdOf Kd i) x y z) :: rest))) : W p l e R s m args below meth c H locs cells slots Q (F0 m pc ls (.int z :: .int y :: .int x :: .ref (ad (wo i)) :: rest)) := by
  obtain ⟨hx, hb, hml, hown, hts, hK, hlk, hN⟩ := X
  obtain ⟨kd, hk, h6, h14⟩ := P.2.2.2.1.kd hi
  have he := cE_way (G := G) (ad := ad) (F := F) (Ar := Ar) (U := U) h14 hk
  have hP1 := gw_one P.1 he
  have hK1 := hK.sub (tys' := []) [] rfl
  have hkd : kdOf Kd i = kd := by unfold kdOf; rw [hk]; rfl
  rw [hkd] at kk
  rcases lt6 h6 with h | h | h | h | h | h <;> subst h
  · refine r_call (vrun_call (va_runV (C := "GateRoad$Way") (As := [.int x, .int y, .int z]) (rest := rest) ⟨hx, hb, hml, hown, hts⟩ (tX8_key l D (ad (wo i)) 2 "GateRoad$Way" TX8 3 rfl _ x y z) (cwV 3 hts (lw_V q989 q990 q991 q89 q1011) rfl rfl rfl (by decide +kernel) ⟨Nat.le_trans (Nat.le_of_ble_eq_true rfl) hR.1, Nat.le_trans (Nat.le_of_ble_eq_true rfl) hR.2⟩) ⟨blindK, va_recv hK1 hP1 (ci := 2) (q0 := 0) rfl rfl, fun U hU hW => ⟨rfl, by rw [hU]; exact hP1, va_K.moved hW.alike hK1⟩⟩ rfl rfl hls rfl (lv_room hst) hdg hcs)) ?_
    exact kk
  · refine r_call (vrun_call (va_runU (C := "GateRoad$Tolled") (As := [.int x, .int y, .int z]) (rest := rest) ⟨hx, hb, hml, hown, hts⟩ (tX8_key l D (ad (wo i)) 3 "GateRoad$Tolled" TX9 3 rfl _ x y z) (va_cwU (owner := "GateRoad$Way") 3 hts (lw_Up (x := yX8_key) q989 q992 q1010 q990 q89 q1011) rfl rfl rfl rfl (by decide +kernel) ⟨Nat.le_trans (Nat.le_of_ble_eq_true rfl) hR.1, Nat.le_trans (Nat.le_of_ble_eq_true rfl) hR.2⟩) ⟨blindK, va_recv hK1 hP1 (ci := 3) (q0 := 0) rfl rfl, fun U hU hW => ⟨rfl, by rw [hU]; exact hP1, va_K.moved hW.alike hK1⟩⟩ rfl rfl hls rfl (lv_room hst) hdg hcs)) ?_
    exact kk
  · refine r_call (vrun_call (va_runU (C := "GateRoad$Numbered") (As := [.int x, .int y, .int z]) (rest := rest) ⟨hx, hb, hml, hown, hts⟩ (tX10_key l D (ad (wo i)) 4 "GateRoad$Numbered" TX10 3 rfl _ x y z) (va_cwO (owner := "GateRoad$Way") 3 hts (lw_O (x := yX8_key) q989 q992 q990 q1003 q997 q91 q998) rfl rfl rfl q1011 (by decide +kernel) ⟨Nat.le_trans (Nat.le_of_ble_eq_true rfl) hR.1, Nat.le_trans (Nat.le_of_ble_eq_true rfl) hR.2⟩) ⟨blindK, va_recv hK1 hP1 (ci := 4) (q0 := 0) rfl rfl, fun U hU hW => ⟨rfl, by rw [hU]; exact hP1, va_K.moved hW.alike hK1⟩⟩ rfl rfl hls rfl (lv_room hst) hdg hcs)) ?_
    exact kk
  · refine r_call (vrun_call (va_runU (C := "GateRoad$Drawn") (As := [.int x, .int y, .int z]) (rest := rest) ⟨hx, hb, hml, hown, hts⟩ (tX11_key l D (ad (wo i)) 5 "GateRoad$Drawn" TX11 3 rfl _ x y z) (va_cwO (owner := "GateRoad$Way") 3 hts (lw_O (x := yX8_key) q989 q992 q990 q993 q994 q92 q995) rfl rfl rfl q1011 (by decide +kernel) ⟨Nat.le_trans (Nat.le_of_ble_eq_true rfl) hR.1, Nat.le_trans (Nat.le_of_ble_eq_true rfl) hR.2⟩) ⟨blindK, va_recv hK1 hP1 (ci := 5) (q0 := 0) rfl rfl, fun U hU hW => ⟨rfl, by rw [hU]; exact hP1, va_K.moved hW.alike hK1⟩⟩ rfl rfl hls rfl (lv_room hst) hdg hcs)) ?_
    exact kk
  · refine r_call (vrun_call (va_runU (C := "GateRoad$Last") (As := [.int x, .int y, .int z]) (rest := rest) ⟨hx, hb, hml, hown, hts⟩ (tX12_key l D (ad (wo i)) 6 "GateRoad$Last" TX12 3 rfl _ x y z) (va_cwO (owner := "GateRoad$Way") 3 hts (lw_O (x := yX8_key) q989 q992 q990 q999 q1000 q93 q1001) rfl rfl rfl q1011 (by decide +kernel) ⟨Nat.le_trans (Nat.le_of_ble_eq_true rfl) hR.1, Nat.le_trans (Nat.le_of_ble_eq_true rfl) hR.2⟩) ⟨blindK, va_recv hK1 hP1 (ci := 6) (q0 := 0) rfl rfl, fun U hU hW => ⟨rfl, by rw [hU]; exact hP1, va_K.moved hW.alike hK1⟩⟩ rfl rfl hls rfl (lv_room hst) hdg hcs)) ?_
    exact kk
  · refine r_call (vrun_call (va_runU (C := "GateRoad$Sorted") (As := [.int x, .int y, .int z]) (rest := rest) ⟨hx, hb, hml, hown, hts⟩ (tX13_key l D (ad (wo i)) 7 "GateRoad$Sorted" TX13 3 rfl _ x y z) (va_cwO (owner := "GateRoad$Way") 3 hts (lw_O (x := yX8_key) q989 q992 q990 q1004 q1005 q94 q1006) rfl rfl rfl q1011 (by decide +kernel) ⟨Nat.le_trans (Nat.le_of_ble_eq_true rfl) hR.1, Nat.le_trans (Nat.le_of_ble_eq_true rfl) hR.2⟩) ⟨blindK, va_recv hK1 hP1 (ci := 7) (q0 := 0) rfl rfl, fun U hU hW => ⟨rfl, by rw [hU]; exact hP1, va_K.moved hW.alike hK1⟩⟩ rfl rfl hls rfl (lv_room hst) hdg hcs)) ?_
    exact kk

theorem c_v_pays (X : cCx p s m args meth c cc nL RX0 D G) (P : cP D A G ad H0 Kd U T zz F Ar H locs) {i : Nat} (hi : Kd i ≠ none) {x : Int32} (hR : 2 ≤ R.frames ∧ 42 ≤ R.locals) (hls : ls.size = nL) (hst : (rest.map fun v => v.category).sum ≤ 8) (hcs : cells ≤ R.cells ∧ slots ≤ R.slots) (hdg : decode cc pc = .ok (.invokevirtual 197, 3)) (kk : W p l e R s m args below meth c H locs cells slots Q (F0 m (pc + 3) ls (.int (paysV (kdOf Kd i) x) :: rest))) : W p l e R s m args below meth c H locs cells slots Q (F0 m pc ls (.int x :: .ref (ad (wo i)) :: rest)) := by
  obtain ⟨hx, hb, hml, hown, hts, hK, hlk, hN⟩ := X
  obtain ⟨kd, hk, h6, h14⟩ := P.2.2.2.1.kd hi
  have he := cE_way (G := G) (ad := ad) (F := F) (Ar := Ar) (U := U) h14 hk
  have hP1 := gw_one P.1 he
  have hK1 := hK.sub (tys' := []) [] rfl
  have hkd : kdOf Kd i = kd := by unfold kdOf; rw [hk]; rfl
  rw [hkd] at kk
  rcases lt6 h6 with h | h | h | h | h | h <;> subst h
  · refine r_call (vrun_call (va_runV (C := "GateRoad$Way") (As := [.int x]) (rest := rest) ⟨hx, hb, hml, hown, hts⟩ (tX8_pays l D (ad (wo i)) 2 "GateRoad$Way" TX8 3 rfl _ x) (cwV 1 hts (lw_V q1029 q1030 q1031 q89 q1043) rfl rfl rfl (by decide +kernel) ⟨Nat.le_trans (Nat.le_of_ble_eq_true rfl) hR.1, Nat.le_trans (Nat.le_of_ble_eq_true rfl) hR.2⟩) ⟨blindK, va_recv hK1 hP1 (ci := 2) (q0 := 0) rfl rfl, fun U hU hW => ⟨rfl, by rw [hU]; exact hP1, va_K.moved hW.alike hK1⟩⟩ rfl rfl hls rfl (lv_room hst) hdg hcs)) ?_
    exact kk
  · refine r_call (vrun_call (va_runU (C := "GateRoad$Tolled") (As := [.int x]) (rest := rest) ⟨hx, hb, hml, hown, hts⟩ (tX9_pays l D (ad (wo i)) 3 "GateRoad$Tolled" TX9 3 rfl _ x) (va_cwO (owner := "GateRoad$Way") 1 hts (lw_O (x := yX8_pays) q1029 q1032 q1030 q1042 q1040 q90 q1041) rfl rfl rfl q1043 (by decide +kernel) ⟨Nat.le_trans (Nat.le_of_ble_eq_true rfl) hR.1, Nat.le_trans (Nat.le_of_ble_eq_true rfl) hR.2⟩) ⟨blindK, va_recv hK1 hP1 (ci := 3) (q0 := 0) rfl rfl, fun U hU hW => ⟨rfl, by rw [hU]; exact hP1, va_K.moved hW.alike hK1⟩⟩ rfl rfl hls rfl (lv_room hst) hdg hcs)) ?_
    exact kk
  · refine r_call (vrun_call (va_runU (C := "GateRoad$Numbered") (As := [.int x]) (rest := rest) ⟨hx, hb, hml, hown, hts⟩ (tX8_pays l D (ad (wo i)) 4 "GateRoad$Numbered" TX10 3 rfl _ x) (va_cwU (owner := "GateRoad$Way") 1 hts (lw_Up (x := yX8_pays) q1029 q1032 q1035 q1030 q89 q1043) rfl rfl rfl rfl (by decide +kernel) ⟨Nat.le_trans (Nat.le_of_ble_eq_true rfl) hR.1, Nat.le_trans (Nat.le_of_ble_eq_true rfl) hR.2⟩) ⟨blindK, va_recv hK1 hP1 (ci := 4) (q0 := 0) rfl rfl, fun U hU hW => ⟨rfl, by rw [hU]; exact hP1, va_K.moved hW.alike hK1⟩⟩ rfl rfl hls rfl (lv_room hst) hdg hcs)) ?_
    exact kk
  · refine r_call (vrun_call (va_runU (C := "GateRoad$Drawn") (As := [.int x]) (rest := rest) ⟨hx, hb, hml, hown, hts⟩ (tX8_pays l D (ad (wo i)) 5 "GateRoad$Drawn" TX11 3 rfl _ x) (va_cwU (owner := "GateRoad$Way") 1 hts (lw_Up (x := yX8_pays) q1029 q1032 q1033 q1030 q89 q1043) rfl rfl rfl rfl (by decide +kernel) ⟨Nat.le_trans (Nat.le_of_ble_eq_true rfl) hR.1, Nat.le_trans (Nat.le_of_ble_eq_true rfl) hR.2⟩) ⟨blindK, va_recv hK1 hP1 (ci := 5) (q0 := 0) rfl rfl, fun U hU hW => ⟨rfl, by rw [hU]; exact hP1, va_K.moved hW.alike hK1⟩⟩ rfl rfl hls rfl (lv_room hst) hdg hcs)) ?_
    exact kk
  · refine r_call (vrun_call (va_runU (C := "GateRoad$Last") (As := [.int x]) (rest := rest) ⟨hx, hb, hml, hown, hts⟩ (tX8_pays l D (ad (wo i)) 6 "GateRoad$Last" TX12 3 rfl _ x) (va_cwU (owner := "GateRoad$Way") 1 hts (lw_Up (x := yX8_pays) q1029 q1032 q1034 q1030 q89 q1043) rfl rfl rfl rfl (by decide +kernel) ⟨Nat.le_trans (Nat.le_of_ble_eq_true rfl) hR.1, Nat.le_trans (Nat.le_of_ble_eq_true rfl) hR.2⟩) ⟨blindK, va_recv hK1 hP1 (ci := 6) (q0 := 0) rfl rfl, fun U hU hW => ⟨rfl, by rw [hU]; exact hP1, va_K.moved hW.alike hK1⟩⟩ rfl rfl hls rfl (lv_room hst) hdg hcs)) ?_
    exact kk
  · refine r_call (vrun_call (va_runU (C := "GateRoad$Sorted") (As := [.int x]) (rest := rest) ⟨hx, hb, hml, hown, hts⟩ (tX13_pays l D (ad (wo i)) 7 "GateRoad$Sorted" TX13 3 rfl _ x) (va_cwO (owner := "GateRoad$Way") 1 hts (lw_O (x := yX8_pays) q1029 q1032 q1030 q1036 q1037 q94 q1038) rfl rfl rfl q1043 (by decide +kernel) ⟨Nat.le_trans (Nat.le_of_ble_eq_true rfl) hR.1, Nat.le_trans (Nat.le_of_ble_eq_true rfl) hR.2⟩) ⟨blindK, va_recv hK1 hP1 (ci := 7) (q0 := 0) rfl rfl, fun U hU hW => ⟨rfl, by rw [hU]; exact hP1, va_K.moved hW.alike hK1⟩⟩ rfl rfl hls rfl (lv_room hst) hdg hcs)) ?_
    exact kk

theorem c_v_spares (X : cCx p s m args meth c cc nL RX0 D G) (P : cP D A G ad H0 Kd U T zz F Ar H locs) {i : Nat} (hi : Kd i ≠ none) {x : Int32} (hR : 2 ≤ R.frames ∧ 42 ≤ R.locals) (hls : ls.size = nL) (hst : (rest.map fun v => v.category).sum ≤ 8) (hcs : cells ≤ R.cells ∧ slots ≤ R.slots) (hdg : decode cc pc = .ok (.invokevirtual 211, 3)) (kk : W p l e R s m args below meth c H locs cells slots Q (F0 m (pc + 3) ls (.int (sparesV (kdOf Kd i) x) :: rest))) : W p l e R s m args below meth c H locs cells slots Q (F0 m pc ls (.int x :: .ref (ad (wo i)) :: rest)) := by
  obtain ⟨hx, hb, hml, hown, hts, hK, hlk, hN⟩ := X
  obtain ⟨kd, hk, h6, h14⟩ := P.2.2.2.1.kd hi
  have he := cE_way (G := G) (ad := ad) (F := F) (Ar := Ar) (U := U) h14 hk
  have hP1 := gw_one P.1 he
  have hK1 := hK.sub (tys' := []) [] rfl
  have hkd : kdOf Kd i = kd := by unfold kdOf; rw [hk]; rfl
  rw [hkd] at kk
  rcases lt6 h6 with h | h | h | h | h | h <;> subst h
  · refine r_call (vrun_call (va_runV (C := "GateRoad$Way") (As := [.int x]) (rest := rest) ⟨hx, hb, hml, hown, hts⟩ (tX8_spares l D (ad (wo i)) 2 "GateRoad$Way" TX8 3 rfl _ x) (cwV 1 hts (lw_V q1075 q1076 q1077 q89 q1086) rfl rfl rfl (by decide +kernel) ⟨Nat.le_trans (Nat.le_of_ble_eq_true rfl) hR.1, Nat.le_trans (Nat.le_of_ble_eq_true rfl) hR.2⟩) ⟨blindK, va_recv hK1 hP1 (ci := 2) (q0 := 0) rfl rfl, fun U hU hW => ⟨rfl, by rw [hU]; exact hP1, va_K.moved hW.alike hK1⟩⟩ rfl rfl hls rfl (lv_room hst) hdg hcs)) ?_
    exact kk
  · refine r_call (vrun_call (va_runU (C := "GateRoad$Tolled") (As := [.int x]) (rest := rest) ⟨hx, hb, hml, hown, hts⟩ (tX8_spares l D (ad (wo i)) 3 "GateRoad$Tolled" TX9 3 rfl _ x) (va_cwU (owner := "GateRoad$Way") 1 hts (lw_Up (x := yX8_spares) q1075 q1078 q1085 q1076 q89 q1086) rfl rfl rfl rfl (by decide +kernel) ⟨Nat.le_trans (Nat.le_of_ble_eq_true rfl) hR.1, Nat.le_trans (Nat.le_of_ble_eq_true rfl) hR.2⟩) ⟨blindK, va_recv hK1 hP1 (ci := 3) (q0 := 0) rfl rfl, fun U hU hW => ⟨rfl, by rw [hU]; exact hP1, va_K.moved hW.alike hK1⟩⟩ rfl rfl hls rfl (lv_room hst) hdg hcs)) ?_
    exact kk
  · refine r_call (vrun_call (va_runU (C := "GateRoad$Numbered") (As := [.int x]) (rest := rest) ⟨hx, hb, hml, hown, hts⟩ (tX8_spares l D (ad (wo i)) 4 "GateRoad$Numbered" TX10 3 rfl _ x) (va_cwU (owner := "GateRoad$Way") 1 hts (lw_Up (x := yX8_spares) q1075 q1078 q1083 q1076 q89 q1086) rfl rfl rfl rfl (by decide +kernel) ⟨Nat.le_trans (Nat.le_of_ble_eq_true rfl) hR.1, Nat.le_trans (Nat.le_of_ble_eq_true rfl) hR.2⟩) ⟨blindK, va_recv hK1 hP1 (ci := 4) (q0 := 0) rfl rfl, fun U hU hW => ⟨rfl, by rw [hU]; exact hP1, va_K.moved hW.alike hK1⟩⟩ rfl rfl hls rfl (lv_room hst) hdg hcs)) ?_
    exact kk
  · refine r_call (vrun_call (va_runU (C := "GateRoad$Drawn") (As := [.int x]) (rest := rest) ⟨hx, hb, hml, hown, hts⟩ (tX8_spares l D (ad (wo i)) 5 "GateRoad$Drawn" TX11 3 rfl _ x) (va_cwU (owner := "GateRoad$Way") 1 hts (lw_Up (x := yX8_spares) q1075 q1078 q1079 q1076 q89 q1086) rfl rfl rfl rfl (by decide +kernel) ⟨Nat.le_trans (Nat.le_of_ble_eq_true rfl) hR.1, Nat.le_trans (Nat.le_of_ble_eq_true rfl) hR.2⟩) ⟨blindK, va_recv hK1 hP1 (ci := 5) (q0 := 0) rfl rfl, fun U hU hW => ⟨rfl, by rw [hU]; exact hP1, va_K.moved hW.alike hK1⟩⟩ rfl rfl hls rfl (lv_room hst) hdg hcs)) ?_
    exact kk
  · refine r_call (vrun_call (va_runU (C := "GateRoad$Last") (As := [.int x]) (rest := rest) ⟨hx, hb, hml, hown, hts⟩ (tX12_spares l D (ad (wo i)) 6 "GateRoad$Last" TX12 3 rfl _ x) (va_cwO (owner := "GateRoad$Way") 1 hts (lw_O (x := yX8_spares) q1075 q1078 q1076 q1080 q1081 q93 q1082) rfl rfl rfl q1086 (by decide +kernel) ⟨Nat.le_trans (Nat.le_of_ble_eq_true rfl) hR.1, Nat.le_trans (Nat.le_of_ble_eq_true rfl) hR.2⟩) ⟨blindK, va_recv hK1 hP1 (ci := 6) (q0 := 0) rfl rfl, fun U hU hW => ⟨rfl, by rw [hU]; exact hP1, va_K.moved hW.alike hK1⟩⟩ rfl rfl hls rfl (lv_room hst) hdg hcs)) ?_
    exact kk
  · refine r_call (vrun_call (va_runU (C := "GateRoad$Sorted") (As := [.int x]) (rest := rest) ⟨hx, hb, hml, hown, hts⟩ (tX8_spares l D (ad (wo i)) 7 "GateRoad$Sorted" TX13 3 rfl _ x) (va_cwU (owner := "GateRoad$Way") 1 hts (lw_Up (x := yX8_spares) q1075 q1078 q1084 q1076 q89 q1086) rfl rfl rfl rfl (by decide +kernel) ⟨Nat.le_trans (Nat.le_of_ble_eq_true rfl) hR.1, Nat.le_trans (Nat.le_of_ble_eq_true rfl) hR.2⟩) ⟨blindK, va_recv hK1 hP1 (ci := 7) (q0 := 0) rfl rfl, fun U hU hW => ⟨rfl, by rw [hU]; exact hP1, va_K.moved hW.alike hK1⟩⟩ rfl rfl hls rfl (lv_room hst) hdg hcs)) ?_
    exact kk

theorem c_lsize (X : cCx p s m args meth c cc nL RX0 D G) (P : cP D A G ad H0 Kd U T zz F Ar H locs) (hR : 1 ≤ R.frames ∧ 20 ≤ R.locals) (hls : ls.size = nL) (hst : (rest.map fun v => v.category).sum ≤ 8) (hcs : cells ≤ R.cells ∧ slots ≤ R.slots) (hdg : decode cc pc = .ok (.invokevirtual 131, 3)) (kk : W p l e R s m args below meth c H locs cells slots Q (F0 m (pc + 3) ls (.int (F 32) :: rest))) : W p l e R s m args below meth c H locs cells slots Q (F0 m pc ls (.ref (ad 9) :: rest)) := by
  obtain ⟨hx, hb, hml, hown, hts, hK, hlk, hN⟩ := X
  have hP1 := gw_one P.1 (k := 9) (x := .inr (9, [.int (F 33), .ref (if F 32 = 0 then G 10 else ad 33), .int (F 32)])) rfl
  have hK1 := hK.sub (tys' := []) [] rfl
  exact r_call (W.runV (As := []) (rest := rest) ⟨hx, hb, hml, hown, hts⟩ (tJ2_size l D (ad 9) _ (F 33) (F 32)) (cwV 0 hts (lw_V q796 q797 q798 q67 q799) rfl rfl rfl (by decide +kernel) ⟨hR.1, hR.2⟩) ⟨blindK, va_recv hK1 hP1 (ci := 9) (q0 := 0) rfl rfl, fun U hU hW => ⟨rfl, by rw [hU]; exact hP1, va_K.moved hW.alike hK1⟩⟩ rfl rfl hls rfl (lv_room hst) hdg hcs) kk
theorem c_lget (X : cCx p s m args meth c cc nL RX0 D G) (P : cP D A G ad H0 Kd U T zz F Ar H locs) {i : Int32} (h1 : ¬ i < 0) (h2 : i < F 32) (hR : 3 ≤ R.frames ∧ 64 ≤ R.locals) (hls : ls.size = nL) (hst : (rest.map fun v => v.category).sum ≤ 8) (hcs : cells ≤ R.cells ∧ slots ≤ R.slots) (hdg : decode cc pc = .ok (.invokevirtual 246, 3)) (kk : Kd i.toNatClampNeg ≠ none → W p l e R s m args below meth c H locs cells slots Q (F0 m (pc + 3) ls (.ref (ad (wo i.toNatClampNeg)) :: rest))) : W p l e R s m args below meth c H locs cells slots Q (F0 m pc ls (.int i :: .ref (ad 9) :: rest)) := by
  obtain ⟨hx, hb, hml, hown, hts, hK, hlk, hN⟩ := X
  obtain ⟨w1, w2, w3, w4⟩ := P.2.2.2.1
  have hlt : i.toNatClampNeg < (F 32).toNatClampNeg := by
    obtain ⟨a, ha, rfl⟩ := nI_of h1
    obtain ⟨b, hb, hb2⟩ := nI_of w1
    rw [hb2] at h2 ⊢
    rw [nI_clamp ha, nI_clamp hb]
    exact (nI_ltI ha hb).mp h2
  have h0 : ¬ F 32 = 0 := by
    intro z
    rw [z] at hlt
    exact absurd hlt (by simp)
  have hin : vp_in i 10 := by
    unfold vp_in
    rintro (z | z)
    · exact h1 z
    · omega
  have e33 : cE G ad F Ar Kd U 33 = some (.inl (G 5, 10, .inr (.inr (.inr (.inr (fun j => if j < (F 32).toNatClampNeg then some (ad (wo j)) else none)))))) := by
    show cOb G ad F Kd U 33 = _
    simp [cOb, h0]
  have e9 : cE G ad F Ar Kd U 9 = some (.inr (9, [.int (F 33), .ref (ad 33), .int (F 32)])) := by
    show some _ = _
    rw [if_neg h0]
  have hP1 : alP D (ad 9) (ad 33) (F 33) (F 32) (G 5) 10 (fun j => if j < (F 32).toNatClampNeg then some (ad (wo j)) else none) H := by
    intro k q hq
    match k, hq with
    | 0, hq => cases hq; exact P.1 9 _ e9
    | 1, hq => cases hq; exact P.1 33 _ e33
  have hK1 := hK.sub (tys' := [(G 5, .object "java/lang/Object")]) [5] rfl
  refine r_call (W.runV (As := [.int i]) (rest := rest) ⟨hx, hb, hml, hown, hts⟩ (tJ2_get l D (ad 9) (ad 33) (F 33) (F 32) (G 5) 10 _ i hin h2) (cwV 1 hts (lw_V q931 q932 q933 q67 q934) rfl rfl rfl (by decide +kernel) ⟨hR.1, hR.2⟩) ⟨blindK, va_recv hK1 hP1 (ci := 9) (q0 := 0) rfl rfl, fun U hU hW => ⟨rfl, by rw [hU]; exact hP1, va_K.moved hW.alike hK1⟩⟩ rfl rfl hls rfl (lv_room hst) hdg hcs) ?_
  have kk := kk (w3 _ hlt)
  show W p l e R s m args below meth c H locs cells slots Q (F0 m (pc + 3) ls (va_rf (if i.toNatClampNeg < (F 32).toNatClampNeg then some (ad (wo i.toNatClampNeg)) else none) :: rest))
  rw [if_pos hlt]
  exact kk
theorem c_castW (X : cCx p s m args meth c cc nL RX0 D G) (P : cP D A G ad H0 Kd U T zz F Ar H locs) {i : Nat} (hi : Kd i ≠ none) (hdg : decode cc pc = .ok (.checkcast 3, 3)) (kk : W p l e R s m args below meth c H locs cells slots Q (F0 m (pc + 3) ls (.ref (ad (wo i)) :: rest))) : W p l e R s m args below meth c H locs cells slots Q (F0 m pc ls (.ref (ad (wo i)) :: rest)) := by
  obtain ⟨hx, hb, hml, hown, hts, hK, hlk, hN⟩ := X
  obtain ⟨kd, hk, h6, h14⟩ := P.2.2.2.1.kd hi
  have hP1 := gw_one P.1 (cE_way (G := G) (ad := ad) (F := F) (Ar := Ar) (U := U) h14 hk)
  rcases lt6 h6 with h | h | h | h | h | h <;> subst h
  · exact va_castS (nm := "GateRoad$Way") hx hb hown (hts _ q136) (hK.1 2 _ rfl).2 (va_recv hK hP1 (ci := 2) (q0 := 0) rfl rfl) hdg kk
  · exact va_castY (C := "GateRoad$Tolled") (nm := "GateRoad$Way") hx hb hown (hts _ q136) (hN.1 _ _ (by decide)) (va_recv hK hP1 (ci := 3) (q0 := 0) rfl rfl) hdg kk
  · exact va_castY (C := "GateRoad$Numbered") (nm := "GateRoad$Way") hx hb hown (hts _ q136) (hN.1 _ _ (by decide)) (va_recv hK hP1 (ci := 4) (q0 := 0) rfl rfl) hdg kk
  · exact va_castY (C := "GateRoad$Drawn") (nm := "GateRoad$Way") hx hb hown (hts _ q136) (hN.1 _ _ (by decide)) (va_recv hK hP1 (ci := 5) (q0 := 0) rfl rfl) hdg kk
  · exact va_castY (C := "GateRoad$Last") (nm := "GateRoad$Way") hx hb hown (hts _ q136) (hN.1 _ _ (by decide)) (va_recv hK hP1 (ci := 6) (q0 := 0) rfl rfl) hdg kk
  · exact va_castY (C := "GateRoad$Sorted") (nm := "GateRoad$Way") hx hb hown (hts _ q136) (hN.1 _ _ (by decide)) (va_recv hK hP1 (ci := 7) (q0 := 0) rfl rfl) hdg kk

end CR2
