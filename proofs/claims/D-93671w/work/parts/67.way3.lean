/-! ===== way: its contract ===== -/
set_option maxRecDepth 100000
def cPw (D : va_G) (G ad : Nat → Nat) (Kd : tK) (U : tU) (T : tT) (zz : Int32) (F : tF) (Ar : tA) (sz : Nat) (V : State) : Prop := cPb D G ad Kd U T zz F Ar sz V ∧ zL (G 10) (cReg G ad Kd U zz sz) V V.heap ∧ va_AO "java/lang/Object" V
theorem cw_blind {D : va_G} {G ad : Nat → Nat} {Kd : tK} {U : tU} {T : tT} {zz : Int32} {F : tF} {Ar : tA} {sz : Nat} {as : List Value} : FrameBlind (va_Pc as (cPw D G ad Kd U T zz F Ar sz)) := fun a V g mk q => by
  obtain ⟨q0, q1, q2, q3⟩ := q
  exact ⟨q0, (c_blind a V g mk ⟨q0, q1⟩).2, q2.moved (Vm.Alike.refl V.vm), q3.moved (Vm.Alike.refl V.vm)⟩
/-- a world after a call: addresses, kinds, fields and arrays may be new -/
def cBW (D : va_G) (G ad : Nat → Nat) (Kd : tK) (U : tU) (T : tT) (zz : Int32) (sz : Nat) (u : tM) (t : State) : Prop :=
  gw_P D vcl u.1 (cE G u.1 u.2.2.1 u.2.2.2 u.2.1 U) t.heap ∧ gw_D (cReg G ad Kd U zz sz) u.1 (cE G u.1 u.2.2.1 u.2.2.2 u.2.1 U) ∧ cWf u.2.2.1 u.2.1 ∧ cTx G u.1 U T u.2.2.1 ∧ u.1 0 = ad 0 ∧ ∀ j, u.1 (200 + j) = ad (200 + j)
def wyQ (Kd : tK) (Q : Int32 → tK → tF → tA → Prop) : wyO → tF → tA → Prop := fun o F Ar => match o with
  | .inl r => Q r Kd F Ar
  | .inr (kind, j) => wt_way Kd F Ar kind j Q
set_option maxHeartbeats 4000000 in
theorem twc_way (l : Launch) (D : va_G) (G ad : Nat → Nat) (Kd : tK) (U : tU) (T : tT) (zz : Int32) (F : tF) (Ar : tA) (a1 a2 : Int32) (sz : Nat) (Q : Int32 → tK → tF → tA → Prop) (hw : wc_way Kd T F Ar a1 a2 (wyQ Kd Q)) :
    Met l yX0_way (ws_ yX0_way cX0_way 6 (some .int)) wyRm (va_Pc [.ref (ad 0), .int a1, .int a2] (cPw D G ad Kd U T zz F Ar sz)) (va_Qi (fun r (u : tM) => Q r u.2.1 u.2.2.1 u.2.2.2) (cBW D G ad Kd U T zz sz) (cReg G ad Kd U zz sz)) 3 29 (cReg G ad Kd U zz sz) := by
  refine g_entry (by decide) (Nat.le_of_ble_eq_true rfl) ?_
  intro p e s m args below meth c ls hx hb hml hown hts hlk hr hB hl _
  obtain ⟨hBb, hzL, hAO⟩ := hB
  obtain ⟨hsz, P, hK, hN⟩ := c_start hBb
  subst hsz
  have hown : s.vm.findClass RX0 = some m.cls := hown
  have X : cCx p s m args meth c cX0_way 6 RX0 D G := ⟨hx, hb, hml, hown, hts, hK, hlk, hN⟩
  have hl : lv_has ls 6 [(0, .ref (ad 0)), (1, .int a1), (2, .int a2)] := hl
  have hA : ∀ q, s.heap.size ≤ q → cReg G ad Kd U zz s.heap.size q := fun q h => Or.inr h
  refine kwc_way_J0 (Q := wyQ Kd Q) X hr hA (fun r F Ar H locs t hq P ht => ?_) (fun kind j F Ar H locs ls hq hj P hl => ?_) _ _ P hl hw
  · exact ⟨⟨r, (ad, Kd, F, Ar), rfl, hq, by show gw_P _ _ _ _ t.heap; rw [ht]; exact P.1, P.2.1, P.2.2.2.1, P.2.2.2.2.1, rfl, fun _ => rfl⟩, P.2.2.1.F ht⟩
  · exact way_tail X hr hA hzL hAO hj (fun r ad1 Kd1 F1 A1 H1 locs1 t hq P1 e0 e2 ht => ⟨⟨r, (ad1, Kd1, F1, A1), rfl, hq, by show gw_P _ _ _ _ t.heap; rw [ht]; exact P1.1, P1.2.1, P1.2.2.2.1, P1.2.2.2.2.1, e0, e2⟩, P1.2.2.1.F ht⟩) P hq hl
