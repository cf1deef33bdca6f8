/-! by gen/model.py: methods of the model, 0 -/
set_option maxRecDepth 100000
section MM0
variable {p : Program} {l : Launch} {e : Env} {R : Room} {s : State} {m : MethodId} {args : Array Value} {below : List Frame} {meth : Method} {c : Code}
variable {cc : ByteArray} {nL pc : Nat} {ls : Array Slot} {rest : List Value} {D : va_G} {cl : List vw_C} {ci : Nat} {dA dL : ClassId} {ad : Nat → Nat}
-- first
def wm_first (F : tF) (Ar : tA) (a1 : Int32) (a2 : Int32) (a3 : Int32) (a4 : Int32) (a5 : Int32) (Q : tF → tA → Prop) : Prop :=
  vp_in a1 1200 ∧ ∀ Ar_1 : tA, Ar_1 = aset Ar 14 a1.toNatClampNeg a2 → vp_in (a1 + 1) 1200 ∧ ∀ Ar_2 : tA, Ar_2 = aset Ar_1 14 (a1 + 1).toNatClampNeg a3 → vp_in (a1 + 2) 1200 ∧ ∀ Ar_3 : tA, Ar_3 = aset Ar_2 14 (a1 + 2).toNatClampNeg a4 → vp_in (a1 + 3) 1200 ∧ ∀ Ar_4 : tA, Ar_4 = aset Ar_3 14 (a1 + 3).toNatClampNeg a5 → Q F Ar_4
set_option maxHeartbeats 4000000 in
theorem twm_first (l : Launch) (D : va_G) (cl : List vw_C) (ci : Nat) (dA dL : ClassId) (ad : Nat → Nat) (F : tF) (Ar : tA) (a1 : Int32) (a2 : Int32) (a3 : Int32) (a4 : Int32) (a5 : Int32) (Q : tF → tA → Prop) (hw : wm_first F Ar a1 a2 a3 a4 a5 Q) : Met l yX7_first (ws_ yX7_first cX7_first 6 none) ({ frames := 0, cells := 0, slots := 0, locals := 0 }) (mPc D cl ci dA dL ad F Ar [.int a1, .int a2, .int a3, .int a4, .int a5]) (mQv D cl ci dA dL ad Q) 0 0 (mReg ad) := by
  refine m_entry (by decide) rfl (Nat.le_of_ble_eq_true rfl) ?_
  intro p e s m below meth c ls X hr P hl
  obtain ⟨hx, hb, hml, hown, hts, -, -, hlk⟩ := id X
  have S : CallFix p m c _ _ s _ lw_all RX7 := ⟨hx, hb, hml, hown, hts⟩
  have hl : lv_has ls 6 [(0, .ref (ad 0)), (1, .int a1), (2, .int a2), (3, .int a3), (4, .int a4), (5, .int a5)] := hl
  refine lv_aload_n hx hb dX7_first_0 rfl (lv_at hl 0 rfl) ?_
  refine mg_codes X P dX7_first_1 ?_
  refine lv_iload_n hx hb dX7_first_4 rfl (lv_at hl 1 rfl) ?_
  refine lv_iload_n hx hb dX7_first_5 rfl (lv_at hl 2 rfl) ?_
  refine m_iast X P 14 rfl (by decide) hw.1 dX7_first_6 (fun Ar_1 H locs eAr_1 P => ?_)
  replace hw := hw.2
  replace hw := hw Ar_1 eAr_1
  refine lv_aload_n hx hb dX7_first_7 rfl (lv_at hl 0 rfl) ?_
  refine mg_codes X P dX7_first_8 ?_
  refine lv_iload_n hx hb dX7_first_11 rfl (lv_at hl 1 rfl) ?_
  refine lv_iconst (v := 1) hx hb dX7_first_12 (by decide) ?_
  refine lv_iadd hx hb dX7_first_13 ?_
  refine lv_iload_n hx hb dX7_first_14 rfl (lv_at hl 3 rfl) ?_
  refine m_iast X P 14 rfl (by decide) hw.1 dX7_first_15 (fun Ar_2 H locs eAr_2 P => ?_)
  replace hw := hw.2
  replace hw := hw Ar_2 eAr_2
  refine lv_aload_n hx hb dX7_first_16 rfl (lv_at hl 0 rfl) ?_
  refine mg_codes X P dX7_first_17 ?_
  refine lv_iload_n hx hb dX7_first_20 rfl (lv_at hl 1 rfl) ?_
  refine lv_iconst (v := 2) hx hb dX7_first_21 (by decide) ?_
  refine lv_iadd hx hb dX7_first_22 ?_
  refine lv_iload hx hb dX7_first_23 (lv_at hl 4 rfl) ?_
  refine m_iast X P 14 rfl (by decide) hw.1 dX7_first_25 (fun Ar_3 H locs eAr_3 P => ?_)
  replace hw := hw.2
  replace hw := hw Ar_3 eAr_3
  refine lv_aload_n hx hb dX7_first_26 rfl (lv_at hl 0 rfl) ?_
  refine mg_codes X P dX7_first_27 ?_
  refine lv_iload_n hx hb dX7_first_30 rfl (lv_at hl 1 rfl) ?_
  refine lv_iconst (v := 3) hx hb dX7_first_31 (by decide) ?_
  refine lv_iadd hx hb dX7_first_32 ?_
  refine lv_iload hx hb dX7_first_33 (lv_at hl 5 rfl) ?_
  refine m_iast X P 14 rfl (by decide) hw.1 dX7_first_35 (fun Ar_4 H locs eAr_4 P => ?_)
  replace hw := hw.2
  replace hw := hw Ar_4 eAr_4
  exact m_vret X P hr hw dX7_first_36
theorem cwm_first {Q : tF → tA → Prop} {a1 : Int32} {a2 : Int32} {a3 : Int32} {a4 : Int32} {a5 : Int32} {Z : State → Prop} {H : Heap} {locs : List Loc} {F : tF} {Ar : tA} (X : mCx p s m args meth c cc nL D cl ci dA dL) (P : mP D cl (mReg ad) ci dA dL ad s.heap F Ar H locs) (hw : wm_first F Ar a1 a2 a3 a4 a5 Q) (hR : 0 + 1 ≤ R.frames ∧ 8 + (6 + 11) + 0 ≤ R.locals) (hls : ls.size = nL) (hst : (rest.map fun v => v.category).sum ≤ 8) (hdg : decode cc pc = .ok (.invokevirtual 122, 3)) (kk : ∀ (F1 : tF) (A1 : tA) (H1 : Heap) (locs1 : List Loc), Q F1 A1 → mP D cl (mReg ad) ci dA dL ad s.heap F1 A1 H1 locs1 → W p l e R s m args below meth c H1 locs1 0 0 Z (F0 m (pc + 3) ls (rest))) : W p l e R s m args below meth c H locs 0 0 Z (F0 m pc ls (.int a5 :: .int a4 :: .int a3 :: .int a2 :: .int a1 :: .ref (ad 0) :: rest)) := by
  obtain ⟨hx, hb, hml, hown, hts, hK, hc, hlk⟩ := X
  exact va_callv (m_runV (as := [.int a1, .int a2, .int a3, .int a4, .int a5]) hx hb hml hown hts hK hc P.1 P.2.1 (twm_first l D cl ci dA dL ad F Ar a1 a2 a3 a4 a5 Q hw) (cwV 5 hts (lw_V q1330 q1332 qs34 q88 q1333) rfl rfl rfl (by decide +kernel) hR) rfl hls hst hdg ⟨Nat.zero_le _, Nat.zero_le _⟩) P.2.2 (fun q _ h => h) (fun q h => h) (fun u t H1 locs1 ht hvm hp hB _ _ hS => kk u.1 u.2 H1 locs1 hp ⟨by rw [← ht]; exact hB, P.2.1.to (fun k h => mM_dom.mpr (mM_dom.mp h)), hS⟩)
-- in
def wm_in (a1 : Int32) (a2 : Int32) (a3 : Int32) (Q : Int32 → Prop) : Prop :=
  ((a1 < a2 → Q 0) ∧ (¬ a1 < a2 → ((a3 < a1 → Q 0) ∧ (¬ a3 < a1 → Q 1))))
set_option maxHeartbeats 4000000 in
theorem twm_in (l : Launch) (a1 : Int32) (a2 : Int32) (a3 : Int32) (Q : Int32 → Prop) (hw : wm_in a1 a2 a3 Q) : Met l yX7_in (ws_ yX7_in cX7_in 3 (some .boolean)) ({ frames := 0, cells := 0, slots := 0, locals := 0 }) (va_Pc [.int a1, .int a2, .int a3] (fun _ => True)) (vp_Si Q) 0 0 (fun _ => False) := by
  refine s_entry (by decide) (Nat.le_of_ble_eq_true rfl) ?_
  intro p e s m below meth c ls hx hb hml hown hts hlk hr hl
  have hown : s.vm.findClass RX7 = some m.cls := hown
  have X : sCx p s m _ meth c cX7_in 3 RX7 := ⟨hx, hb, hml, hown, hts, hlk⟩
  have S : CallFix p m c _ _ s _ lw_all RX7 := ⟨hx, hb, hml, hown, hts⟩
  have hl : lv_has ls 3 [(0, .int a1), (1, .int a2), (2, .int a3)] := hl
  refine lv_iload_n hx hb dX7_in_0 rfl (lv_at hl 0 rfl) ?_
  refine lv_iload_n hx hb dX7_in_1 rfl (lv_at hl 1 rfl) ?_
  refine lv_icmp_lt (tgt := 14) hx hb dX7_in_2 (by decide) (fun c_1 => ?_) (fun c_1 => ?_)
  · replace hw := hw.1 c_1
    refine lv_iconst (v := 0) hx hb dX7_in_14 (by decide) ?_
    exact r_zret hx hb hlk hr (Or.inl rfl) hw dX7_in_15
  · replace hw := hw.2 c_1
    refine lv_iload_n hx hb dX7_in_5 rfl (lv_at hl 0 rfl) ?_
    refine lv_iload_n hx hb dX7_in_6 rfl (lv_at hl 2 rfl) ?_
    refine lv_icmp_gt (tgt := 14) hx hb dX7_in_7 (by decide) (fun c_2 => ?_) (fun c_2 => ?_)
    · replace hw := hw.1 c_2
      refine lv_iconst (v := 0) hx hb dX7_in_14 (by decide) ?_
      exact r_zret hx hb hlk hr (Or.inl rfl) hw dX7_in_15
    · replace hw := hw.2 c_2
      refine lv_iconst (v := 1) hx hb dX7_in_10 (by decide) ?_
      refine lv_goto (tgt := 15) hx hb dX7_in_11 (by decide) ?_
      exact r_zret hx hb hlk hr (Or.inr rfl) hw dX7_in_15
theorem cwm_in {Q : Int32 → Prop} {a1 : Int32} {a2 : Int32} {a3 : Int32} {Z : State → Prop} {H : Heap} {locs : List Loc} (S : CallFix p m c cc nL s args lw_all RX7) (hw : wm_in a1 a2 a3 Q) (hR : 0 + 1 ≤ R.frames ∧ 8 + (3 + 11) + 0 ≤ R.locals) (hls : ls.size = nL) (hst : (rest.map fun v => v.category).sum ≤ 8) (hdg : decode cc pc = .ok (.invokestatic 127, 3)) (kk : ∀ r, Q r → W p l e R s m args below meth c H locs 0 0 Z (F0 m (pc + 3) ls (.int r :: rest))) : W p l e R s m args below meth c H locs 0 0 Z (F0 m pc ls (.int a3 :: .int a2 :: .int a1 :: rest)) :=
  vp_callSi (s_runR (as := [.int a1, .int a2, .int a3]) S (twm_in l a1 a2 a3 Q hw) (va_cwS 3 S.2.2.2.2 (lw_S q1491 q1492 q88 q1493) rfl rfl rfl (by decide +kernel) hR) rfl hls hst hdg ⟨Nat.zero_le _, Nat.zero_le _⟩) kk
-- isGate
def wm_isGate (a1 : Int32) (a2 : Int32) (Q : Int32 → Prop) : Prop :=
  wm_in a1 0 1 (fun r_1 => ((r_1 = 0 → Q 0) ∧ (¬ r_1 = 0 → wm_in a2 0 23 (fun r_3 => ((r_3 = 0 → Q 0) ∧ (¬ r_3 = 0 → Q 1))))))
set_option maxHeartbeats 4000000 in
theorem twm_isGate (l : Launch) (a1 : Int32) (a2 : Int32) (Q : Int32 → Prop) (hw : wm_isGate a1 a2 Q) : Met l yX7_isGate (ws_ yX7_isGate cX7_isGate 2 (some .boolean)) ({ frames := 1, cells := 0, slots := 0, locals := 22 }) (va_Pc [.int a1, .int a2] (fun _ => True)) (vp_Si Q) 0 0 (fun _ => False) := by
  refine s_entry (by decide) (Nat.le_of_ble_eq_true rfl) ?_
  intro p e s m below meth c ls hx hb hml hown hts hlk hr hl
  have hown : s.vm.findClass RX7 = some m.cls := hown
  have X : sCx p s m _ meth c cX7_isGate 2 RX7 := ⟨hx, hb, hml, hown, hts, hlk⟩
  have S : CallFix p m c _ _ s _ lw_all RX7 := ⟨hx, hb, hml, hown, hts⟩
  have hl : lv_has ls 2 [(0, .int a1), (1, .int a2)] := hl
  refine lv_iload_n hx hb dX7_isGate_0 rfl (lv_at hl 0 rfl) ?_
  refine lv_iconst (v := 0) hx hb dX7_isGate_1 (by decide) ?_
  refine lv_iconst (v := 1) hx hb dX7_isGate_2 (by decide) ?_
  refine cwm_in S hw ⟨Nat.le_of_ble_eq_true rfl, Nat.le_of_ble_eq_true rfl⟩ hl.1 (Nat.le_of_ble_eq_true rfl) dX7_isGate_3 (fun r_1 hw => ?_)
  refine lv_if_eq (tgt := 23) hx hb dX7_isGate_6 (by decide) (fun c_2 => ?_) (fun c_2 => ?_)
  · replace hw := hw.1 c_2
    refine lv_iconst (v := 0) hx hb dX7_isGate_23 (by decide) ?_
    exact r_zret hx hb hlk hr (Or.inl rfl) hw dX7_isGate_24
  · replace hw := hw.2 c_2
    refine lv_iload_n hx hb dX7_isGate_9 rfl (lv_at hl 1 rfl) ?_
    refine lv_iconst (v := 0) hx hb dX7_isGate_10 (by decide) ?_
    refine lv_bipush (v := 23) hx hb dX7_isGate_11 (by decide) ?_
    refine cwm_in S hw ⟨Nat.le_of_ble_eq_true rfl, Nat.le_of_ble_eq_true rfl⟩ hl.1 (Nat.le_of_ble_eq_true rfl) dX7_isGate_13 (fun r_3 hw => ?_)
    refine lv_if_eq (tgt := 23) hx hb dX7_isGate_16 (by decide) (fun c_4 => ?_) (fun c_4 => ?_)
    · replace hw := hw.1 c_4
      refine lv_iconst (v := 0) hx hb dX7_isGate_23 (by decide) ?_
      exact r_zret hx hb hlk hr (Or.inl rfl) hw dX7_isGate_24
    · replace hw := hw.2 c_4
      refine lv_iconst (v := 1) hx hb dX7_isGate_19 (by decide) ?_
      refine lv_goto (tgt := 24) hx hb dX7_isGate_20 (by decide) ?_
      exact r_zret hx hb hlk hr (Or.inr rfl) hw dX7_isGate_24
theorem cwm_isGate {Q : Int32 → Prop} {a1 : Int32} {a2 : Int32} {Z : State → Prop} {H : Heap} {locs : List Loc} (S : CallFix p m c cc nL s args lw_all RX7) (hw : wm_isGate a1 a2 Q) (hR : 1 + 1 ≤ R.frames ∧ 8 + (2 + 11) + 22 ≤ R.locals) (hls : ls.size = nL) (hst : (rest.map fun v => v.category).sum ≤ 8) (hdg : decode cc pc = .ok (.invokestatic 131, 3)) (kk : ∀ r, Q r → W p l e R s m args below meth c H locs 0 0 Z (F0 m (pc + 3) ls (.int r :: rest))) : W p l e R s m args below meth c H locs 0 0 Z (F0 m pc ls (.int a2 :: .int a1 :: rest)) :=
  vp_callSi (s_runR (as := [.int a1, .int a2]) S (twm_isGate l a1 a2 Q hw) (va_cwS 2 S.2.2.2.2 (lw_S q1488 q1489 q88 q1490) rfl rfl rfl (by decide +kernel) hR) rfl hls hst hdg ⟨Nat.zero_le _, Nat.zero_le _⟩) kk
-- rate
def wm_rate_L52 (F : tF) (y1_8 : Int32) (y3_8 : Int32) (y4_8 : Int32) (y5_8 : Int32) (Q : Int32 → tF → tA → Prop) : Nat → tA → Int32 → Prop
  | 0, _, _ => False
  | f52 + 1, Ar, y6_8 =>
    ((y3_8 ≤ y6_8 → Q y5_8 F Ar) ∧ (¬ y3_8 ≤ y6_8 → vp_in ((24 * y1_8) + y6_8) 48 ∧ ∀ Ar_10 : tA, Ar_10 = aset Ar 0 ((24 * y1_8) + y6_8).toNatClampNeg y4_8 → ((wm_rate_L52 F y1_8 y3_8 y4_8 y5_8 Q f52) Ar_10 (y6_8 + 1))))
set_option maxHeartbeats 4000000 in
theorem kwm_rate_L52 {Q : Int32 → tF → tA → Prop} (X : mCx p s m args meth c cX7_rate 7 D cl ci dA dL) (hr : meth.sig.returnType = (some .int)) (F : tF) (y1_8 : Int32) (y3_8 : Int32) (y4_8 : Int32) (y5_8 : Int32) : ∀ (n : Nat) (Ar : tA) (y6_8 : Int32) (H : Heap) (locs : List Loc) (ls : Array Slot), mP D cl (mReg ad) ci dA dL ad s.heap F Ar H locs → lv_has ls 7 [(0, .ref (ad 0)), (1, .int y1_8), (3, .int y3_8), (4, .int y4_8), (5, .int y5_8), (6, .int y6_8)] → wm_rate_L52 F y1_8 y3_8 y4_8 y5_8 Q n Ar y6_8 → W p l e ({ frames := 2, cells := 0, slots := 0, locals := 43 }) s m args below meth c H locs 0 0 (MQ below (mQi D cl ci dA dL ad Q) args s 0 0 (mReg ad)) (F0 m 52 ls []) := by
  obtain ⟨hx, hb, hml, hown, hts, -, -, hlk⟩ := id X
  have S : CallFix p m c _ _ s args lw_all RX7 := ⟨hx, hb, hml, hown, hts⟩
  intro n
  induction n with
  | zero =>
    intro Ar y6_8 H locs ls P hl hw
    exact hw.elim
  | succ n ih =>
    intro Ar y6_8 H locs ls P hl hw
    have hKh52_8 := ih
    refine lv_iload hx hb dX7_rate_52 (lv_at hl 5 rfl) ?_
    refine lv_iload_n hx hb dX7_rate_54 rfl (lv_at hl 2 rfl) ?_
    refine lv_icmp_ge (tgt := 78) hx hb dX7_rate_55 (by decide) (fun c_9 => ?_) (fun c_9 => ?_)
    · replace hw := hw.1 c_9
      refine lv_iload hx hb dX7_rate_78 (lv_at hl 4 rfl) ?_
      exact m_iret X P hr hw dX7_rate_80
    · replace hw := hw.2 c_9
      refine lv_aload_n hx hb dX7_rate_58 rfl (lv_at hl 0 rfl) ?_
      refine mg_rate X P dX7_rate_59 ?_
      refine lv_bipush (v := 24) hx hb dX7_rate_62 (by decide) ?_
      refine lv_iload_n hx hb dX7_rate_64 rfl (lv_at hl 1 rfl) ?_
      refine lv_imul hx hb dX7_rate_65 ?_
      refine lv_iload hx hb dX7_rate_66 (lv_at hl 5 rfl) ?_
      refine lv_iadd hx hb dX7_rate_68 ?_
      refine lv_iload hx hb dX7_rate_69 (lv_at hl 3 rfl) ?_
      refine m_iast X P 0 rfl (by decide) hw.1 dX7_rate_71 (fun Ar_10 H locs eAr_10 P => ?_)
      replace hw := hw.2
      replace hw := hw Ar_10 eAr_10
      refine lv_iinc (v := (y6_8 + 1)) (lv' := [(6, .int (y6_8 + 1)), (0, .ref (ad 0)), (1, .int y1_8), (3, .int y3_8), (4, .int y4_8), (5, .int y5_8)]) hx hb dX7_rate_72 hl (k := 5) rfl rfl (by decide) rfl (fun ls hl => ?_)
      refine lv_goto (tgt := 52) hx hb dX7_rate_75 (by decide) ?_
      exact hKh52_8 _ _ _ _ _ P (lv_sub hl [1, 2, 3, 4, 5, 0] rfl) hw
def wm_rate (F : tF) (Ar : tA) (a1 : Int32) (a2 : Int32) (a3 : Int32) (a4 : Int32) (Q : Int32 → tF → tA → Prop) : Prop :=
  wm_isGate a1 a2 (fun r_1 => ((¬ r_1 = 0 → wm_in a3 (a2 + 1) 24 (fun r_3 => ((r_3 = 0 → Q (-2) F Ar) ∧ (¬ r_3 = 0 → wm_in a4 0 9 (fun r_5 => ((¬ r_5 = 0 → vp_in ((24 * a1) + a2) 48 ∧ ∀ x5_7 : Int32, x5_7 = (Ar 0 ((24 * a1) + a2).toNatClampNeg) → (∃ n52, wm_rate_L52 F a1 a3 a4 x5_7 Q n52 Ar a2)) ∧ (r_5 = 0 → Q (-2) F Ar))))))) ∧ (r_1 = 0 → Q (-1) F Ar)))
set_option maxHeartbeats 4000000 in
theorem twm_rate (l : Launch) (D : va_G) (cl : List vw_C) (ci : Nat) (dA dL : ClassId) (ad : Nat → Nat) (F : tF) (Ar : tA) (a1 : Int32) (a2 : Int32) (a3 : Int32) (a4 : Int32) (Q : Int32 → tF → tA → Prop) (hw : wm_rate F Ar a1 a2 a3 a4 Q) : Met l yX7_rate (ws_ yX7_rate cX7_rate 7 (some .int)) ({ frames := 2, cells := 0, slots := 0, locals := 43 }) (mPc D cl ci dA dL ad F Ar [.int a1, .int a2, .int a3, .int a4]) (mQi D cl ci dA dL ad Q) 0 0 (mReg ad) := by
  refine m_entry (by decide) rfl (Nat.le_of_ble_eq_true rfl) ?_
  intro p e s m below meth c ls X hr P hl
  obtain ⟨hx, hb, hml, hown, hts, -, -, hlk⟩ := id X
  have S : CallFix p m c _ _ s _ lw_all RX7 := ⟨hx, hb, hml, hown, hts⟩
  have hl : lv_has ls 7 [(0, .ref (ad 0)), (1, .int a1), (2, .int a2), (3, .int a3), (4, .int a4)] := hl
  refine lv_iload_n hx hb dX7_rate_0 rfl (lv_at hl 1 rfl) ?_
  refine lv_iload_n hx hb dX7_rate_1 rfl (lv_at hl 2 rfl) ?_
  refine cwm_isGate S hw ⟨Nat.le_of_ble_eq_true rfl, Nat.le_of_ble_eq_true rfl⟩ hl.1 (Nat.le_of_ble_eq_true rfl) dX7_rate_2 (fun r_1 hw => ?_)
  refine lv_if_ne (tgt := 10) hx hb dX7_rate_5 (by decide) (fun c_2 => ?_) (fun c_2 => ?_)
  · replace hw := hw.1 c_2
    refine lv_iload_n hx hb dX7_rate_10 rfl (lv_at hl 3 rfl) ?_
    refine lv_iload_n hx hb dX7_rate_11 rfl (lv_at hl 2 rfl) ?_
    refine lv_iconst (v := 1) hx hb dX7_rate_12 (by decide) ?_
    refine lv_iadd hx hb dX7_rate_13 ?_
    refine lv_bipush (v := 24) hx hb dX7_rate_14 (by decide) ?_
    refine cwm_in S hw ⟨Nat.le_of_ble_eq_true rfl, Nat.le_of_ble_eq_true rfl⟩ hl.1 (Nat.le_of_ble_eq_true rfl) dX7_rate_16 (fun r_3 hw => ?_)
    refine lv_if_eq (tgt := 33) hx hb dX7_rate_19 (by decide) (fun c_4 => ?_) (fun c_4 => ?_)
    · replace hw := hw.1 c_4
      refine lv_bipush (v := (-2)) hx hb dX7_rate_33 (by decide) ?_
      exact m_iret X P hr hw dX7_rate_35
    · replace hw := hw.2 c_4
      refine lv_iload hx hb dX7_rate_22 (lv_at hl 4 rfl) ?_
      refine lv_iconst (v := 0) hx hb dX7_rate_24 (by decide) ?_
      refine lv_bipush (v := 9) hx hb dX7_rate_25 (by decide) ?_
      refine cwm_in S hw ⟨Nat.le_of_ble_eq_true rfl, Nat.le_of_ble_eq_true rfl⟩ hl.1 (Nat.le_of_ble_eq_true rfl) dX7_rate_27 (fun r_5 hw => ?_)
      refine lv_if_ne (tgt := 36) hx hb dX7_rate_30 (by decide) (fun c_6 => ?_) (fun c_6 => ?_)
      · replace hw := hw.1 c_6
        refine lv_aload_n hx hb dX7_rate_36 rfl (lv_at hl 0 rfl) ?_
        refine mg_rate X P dX7_rate_37 ?_
        refine lv_bipush (v := 24) hx hb dX7_rate_40 (by decide) ?_
        refine lv_iload_n hx hb dX7_rate_42 rfl (lv_at hl 1 rfl) ?_
        refine lv_imul hx hb dX7_rate_43 ?_
        refine lv_iload_n hx hb dX7_rate_44 rfl (lv_at hl 2 rfl) ?_
        refine lv_iadd hx hb dX7_rate_45 ?_
        refine m_iald X P 0 rfl (by decide) hw.1 dX7_rate_46 ?_
        replace hw := hw.2
        refine lv_topi (fun x5_7 ex5_7 => ?_)
        replace hw := hw x5_7 ex5_7
        refine lv_istore (lv' := [(5, .int x5_7), (0, .ref (ad 0)), (1, .int a1), (2, .int a2), (3, .int a3), (4, .int a4)]) hx hb dX7_rate_47 hl (by decide) rfl (fun ls hl => ?_)
        refine lv_iload_n hx hb dX7_rate_49 rfl (lv_at hl 3 rfl) ?_
        refine lv_istore (lv' := [(6, .int a2), (5, .int x5_7), (0, .ref (ad 0)), (1, .int a1), (2, .int a2), (3, .int a3), (4, .int a4)]) hx hb dX7_rate_50 hl (by decide) rfl (fun ls hl => ?_)
        obtain ⟨n_11, hw⟩ := hw
        refine kwm_rate_L52 X hr _ _ _ _ _    n_11 _ _ _ _ _ P (lv_sub hl [2, 3, 5, 6, 1, 0] rfl) hw
      · replace hw := hw.2 c_6
        refine lv_bipush (v := (-2)) hx hb dX7_rate_33 (by decide) ?_
        exact m_iret X P hr hw dX7_rate_35
  · replace hw := hw.2 c_2
    refine lv_iconst (v := (-1)) hx hb dX7_rate_8 (by decide) ?_
    exact m_iret X P hr hw dX7_rate_9
theorem cwm_rate {Q : Int32 → tF → tA → Prop} {a1 : Int32} {a2 : Int32} {a3 : Int32} {a4 : Int32} {Z : State → Prop} {H : Heap} {locs : List Loc} {F : tF} {Ar : tA} (X : mCx p s m args meth c cc nL D cl ci dA dL) (P : mP D cl (mReg ad) ci dA dL ad s.heap F Ar H locs) (hw : wm_rate F Ar a1 a2 a3 a4 Q) (hR : 2 + 1 ≤ R.frames ∧ 8 + (7 + 11) + 43 ≤ R.locals) (hls : ls.size = nL) (hst : (rest.map fun v => v.category).sum ≤ 8) (hdg : decode cc pc = .ok (.invokevirtual 313, 3)) (kk : ∀ (r : Int32) (F1 : tF) (A1 : tA) (H1 : Heap) (locs1 : List Loc), Q r F1 A1 → mP D cl (mReg ad) ci dA dL ad s.heap F1 A1 H1 locs1 → W p l e R s m args below meth c H1 locs1 0 0 Z (F0 m (pc + 3) ls (.int r :: rest))) : W p l e R s m args below meth c H locs 0 0 Z (F0 m pc ls (.int a4 :: .int a3 :: .int a2 :: .int a1 :: .ref (ad 0) :: rest)) := by
  obtain ⟨hx, hb, hml, hown, hts, hK, hc, hlk⟩ := X
  exact va_calli (m_runV (as := [.int a1, .int a2, .int a3, .int a4]) hx hb hml hown hts hK hc P.1 P.2.1 (twm_rate l D cl ci dA dL ad F Ar a1 a2 a3 a4 Q hw) (cwV 4 hts (lw_V q1753 q1485 q1486 q88 q1487) rfl rfl rfl (by decide +kernel) hR) rfl hls hst hdg ⟨Nat.zero_le _, Nat.zero_le _⟩) P.2.2 (fun q _ h => h) (fun q h => h) (fun r u t H1 locs1 ht hvm hp hB _ _ hS => kk r u.1 u.2 H1 locs1 hp ⟨by rw [← ht]; exact hB, P.2.1.to (fun k h => mM_dom.mpr (mM_dom.mp h)), hS⟩)
-- toll
def wm_toll (F : tF) (Ar : tA) (a1 : Int32) (a2 : Int32) (a3 : Int32) (Q : Int32 → tF → tA → Prop) : Prop :=
  wm_isGate a1 a2 (fun r_1 => ((¬ r_1 = 0 → wm_in a3 0 99 (fun r_3 => ((¬ r_3 = 0 → vp_in ((24 * a1) + a2) 48 ∧ ∀ x4_5 : Int32, x4_5 = (Ar 1 ((24 * a1) + a2).toNatClampNeg) → vp_in ((24 * a1) + a2) 48 ∧ ∀ Ar_6 : tA, Ar_6 = aset Ar 1 ((24 * a1) + a2).toNatClampNeg a3 → Q x4_5 F Ar_6) ∧ (r_3 = 0 → Q (-2) F Ar)))) ∧ (r_1 = 0 → Q (-1) F Ar)))
set_option maxHeartbeats 4000000 in
theorem twm_toll (l : Launch) (D : va_G) (cl : List vw_C) (ci : Nat) (dA dL : ClassId) (ad : Nat → Nat) (F : tF) (Ar : tA) (a1 : Int32) (a2 : Int32) (a3 : Int32) (Q : Int32 → tF → tA → Prop) (hw : wm_toll F Ar a1 a2 a3 Q) : Met l yX7_toll (ws_ yX7_toll cX7_toll 5 (some .int)) ({ frames := 2, cells := 0, slots := 0, locals := 43 }) (mPc D cl ci dA dL ad F Ar [.int a1, .int a2, .int a3]) (mQi D cl ci dA dL ad Q) 0 0 (mReg ad) := by
  refine m_entry (by decide) rfl (Nat.le_of_ble_eq_true rfl) ?_
  intro p e s m below meth c ls X hr P hl
  obtain ⟨hx, hb, hml, hown, hts, -, -, hlk⟩ := id X
  have S : CallFix p m c _ _ s _ lw_all RX7 := ⟨hx, hb, hml, hown, hts⟩
  have hl : lv_has ls 5 [(0, .ref (ad 0)), (1, .int a1), (2, .int a2), (3, .int a3)] := hl
  refine lv_iload_n hx hb dX7_toll_0 rfl (lv_at hl 1 rfl) ?_
  refine lv_iload_n hx hb dX7_toll_1 rfl (lv_at hl 2 rfl) ?_
  refine cwm_isGate S hw ⟨Nat.le_of_ble_eq_true rfl, Nat.le_of_ble_eq_true rfl⟩ hl.1 (Nat.le_of_ble_eq_true rfl) dX7_toll_2 (fun r_1 hw => ?_)
  refine lv_if_ne (tgt := 10) hx hb dX7_toll_5 (by decide) (fun c_2 => ?_) (fun c_2 => ?_)
  · replace hw := hw.1 c_2
    refine lv_iload_n hx hb dX7_toll_10 rfl (lv_at hl 3 rfl) ?_
    refine lv_iconst (v := 0) hx hb dX7_toll_11 (by decide) ?_
    refine lv_bipush (v := 99) hx hb dX7_toll_12 (by decide) ?_
    refine cwm_in S hw ⟨Nat.le_of_ble_eq_true rfl, Nat.le_of_ble_eq_true rfl⟩ hl.1 (Nat.le_of_ble_eq_true rfl) dX7_toll_14 (fun r_3 hw => ?_)
    refine lv_if_ne (tgt := 23) hx hb dX7_toll_17 (by decide) (fun c_4 => ?_) (fun c_4 => ?_)
    · replace hw := hw.1 c_4
      refine lv_aload_n hx hb dX7_toll_23 rfl (lv_at hl 0 rfl) ?_
      refine mg_toll X P dX7_toll_24 ?_
      refine lv_bipush (v := 24) hx hb dX7_toll_27 (by decide) ?_
      refine lv_iload_n hx hb dX7_toll_29 rfl (lv_at hl 1 rfl) ?_
      refine lv_imul hx hb dX7_toll_30 ?_
      refine lv_iload_n hx hb dX7_toll_31 rfl (lv_at hl 2 rfl) ?_
      refine lv_iadd hx hb dX7_toll_32 ?_
      refine m_iald X P 1 rfl (by decide) hw.1 dX7_toll_33 ?_
      replace hw := hw.2
      refine lv_topi (fun x4_5 ex4_5 => ?_)
      replace hw := hw x4_5 ex4_5
      refine lv_istore (lv' := [(4, .int x4_5), (0, .ref (ad 0)), (1, .int a1), (2, .int a2), (3, .int a3)]) hx hb dX7_toll_34 hl (by decide) rfl (fun ls hl => ?_)
      refine lv_aload_n hx hb dX7_toll_36 rfl (lv_at hl 1 rfl) ?_
      refine mg_toll X P dX7_toll_37 ?_
      refine lv_bipush (v := 24) hx hb dX7_toll_40 (by decide) ?_
      refine lv_iload_n hx hb dX7_toll_42 rfl (lv_at hl 2 rfl) ?_
      refine lv_imul hx hb dX7_toll_43 ?_
      refine lv_iload_n hx hb dX7_toll_44 rfl (lv_at hl 3 rfl) ?_
      refine lv_iadd hx hb dX7_toll_45 ?_
      refine lv_iload_n hx hb dX7_toll_46 rfl (lv_at hl 4 rfl) ?_
      refine m_iast X P 1 rfl (by decide) hw.1 dX7_toll_47 (fun Ar_6 H locs eAr_6 P => ?_)
      replace hw := hw.2
      replace hw := hw Ar_6 eAr_6
      refine lv_iload hx hb dX7_toll_48 (lv_at hl 0 rfl) ?_
      exact m_iret X P hr hw dX7_toll_50
    · replace hw := hw.2 c_4
      refine lv_bipush (v := (-2)) hx hb dX7_toll_20 (by decide) ?_
      exact m_iret X P hr hw dX7_toll_22
  · replace hw := hw.2 c_2
    refine lv_iconst (v := (-1)) hx hb dX7_toll_8 (by decide) ?_
    exact m_iret X P hr hw dX7_toll_9
-- sort
def wm_sort (F : tF) (Ar : tA) (a1 : Int32) (a2 : Int32) (a3 : Int32) (a4 : Int32) (Q : Int32 → tF → tA → Prop) : Prop :=
  wm_in a1 0 23 (fun r_1 => ((r_1 = 0 → Q (-2) F Ar) ∧ (¬ r_1 = 0 → wm_in a2 0 999 (fun r_3 => ((r_3 = 0 → Q (-2) F Ar) ∧ (¬ r_3 = 0 → wm_in a3 0 9 (fun r_5 => ((r_5 = 0 → Q (-2) F Ar) ∧ (¬ r_5 = 0 → wm_in a4 0 9 (fun r_7 => ((¬ r_7 = 0 → ((¬ (F 2) = 4 → vp_in (F 2) 4 ∧ ∀ Ar_10 : tA, Ar_10 = aset Ar 3 (F 2).toNatClampNeg a1 → vp_in (F 2) 4 ∧ ∀ Ar_11 : tA, Ar_11 = aset Ar_10 4 (F 2).toNatClampNeg a2 → vp_in (2 * (F 2)) 8 ∧ ∀ Ar_12 : tA, Ar_12 = aset Ar_11 5 (2 * (F 2)).toNatClampNeg a3 → vp_in ((2 * (F 2)) + 1) 8 ∧ ∀ Ar_13 : tA, Ar_13 = aset Ar_12 5 ((2 * (F 2)) + 1).toNatClampNeg a4 → ∀ F_14 : tF, F_14 = upd F 2 ((F 2) + 1) → Q ((F_14 2) - 1) F_14 Ar_13) ∧ ((F 2) = 4 → Q (-4) F Ar))) ∧ (r_7 = 0 → Q (-2) F Ar))))))))))))
set_option maxHeartbeats 4000000 in
theorem twm_sort (l : Launch) (D : va_G) (cl : List vw_C) (ci : Nat) (dA dL : ClassId) (ad : Nat → Nat) (F : tF) (Ar : tA) (a1 : Int32) (a2 : Int32) (a3 : Int32) (a4 : Int32) (Q : Int32 → tF → tA → Prop) (hw : wm_sort F Ar a1 a2 a3 a4 Q) : Met l yX7_sort (ws_ yX7_sort cX7_sort 5 (some .int)) ({ frames := 1, cells := 0, slots := 0, locals := 22 }) (mPc D cl ci dA dL ad F Ar [.int a1, .int a2, .int a3, .int a4]) (mQi D cl ci dA dL ad Q) 0 0 (mReg ad) := by
  refine m_entry (by decide) rfl (Nat.le_of_ble_eq_true rfl) ?_
  intro p e s m below meth c ls X hr P hl
  obtain ⟨hx, hb, hml, hown, hts, -, -, hlk⟩ := id X
  have S : CallFix p m c _ _ s _ lw_all RX7 := ⟨hx, hb, hml, hown, hts⟩
  have hl : lv_has ls 5 [(0, .ref (ad 0)), (1, .int a1), (2, .int a2), (3, .int a3), (4, .int a4)] := hl
  refine lv_iload_n hx hb dX7_sort_0 rfl (lv_at hl 1 rfl) ?_
  refine lv_iconst (v := 0) hx hb dX7_sort_1 (by decide) ?_
  refine lv_bipush (v := 23) hx hb dX7_sort_2 (by decide) ?_
  refine cwm_in S hw ⟨Nat.le_of_ble_eq_true rfl, Nat.le_of_ble_eq_true rfl⟩ hl.1 (Nat.le_of_ble_eq_true rfl) dX7_sort_4 (fun r_1 hw => ?_)
  refine lv_if_eq (tgt := 42) hx hb dX7_sort_7 (by decide) (fun c_2 => ?_) (fun c_2 => ?_)
  · replace hw := hw.1 c_2
    refine lv_bipush (v := (-2)) hx hb dX7_sort_42 (by decide) ?_
    exact m_iret X P hr hw dX7_sort_44
  · replace hw := hw.2 c_2
    refine lv_iload_n hx hb dX7_sort_10 rfl (lv_at hl 2 rfl) ?_
    refine lv_iconst (v := 0) hx hb dX7_sort_11 (by decide) ?_
    refine lv_sipush (v := 999) hx hb dX7_sort_12 (by decide) ?_
    refine cwm_in S hw ⟨Nat.le_of_ble_eq_true rfl, Nat.le_of_ble_eq_true rfl⟩ hl.1 (Nat.le_of_ble_eq_true rfl) dX7_sort_15 (fun r_3 hw => ?_)
    refine lv_if_eq (tgt := 42) hx hb dX7_sort_18 (by decide) (fun c_4 => ?_) (fun c_4 => ?_)
    · replace hw := hw.1 c_4
      refine lv_bipush (v := (-2)) hx hb dX7_sort_42 (by decide) ?_
      exact m_iret X P hr hw dX7_sort_44
    · replace hw := hw.2 c_4
      refine lv_iload_n hx hb dX7_sort_21 rfl (lv_at hl 3 rfl) ?_
      refine lv_iconst (v := 0) hx hb dX7_sort_22 (by decide) ?_
      refine lv_bipush (v := 9) hx hb dX7_sort_23 (by decide) ?_
      refine cwm_in S hw ⟨Nat.le_of_ble_eq_true rfl, Nat.le_of_ble_eq_true rfl⟩ hl.1 (Nat.le_of_ble_eq_true rfl) dX7_sort_25 (fun r_5 hw => ?_)
      refine lv_if_eq (tgt := 42) hx hb dX7_sort_28 (by decide) (fun c_6 => ?_) (fun c_6 => ?_)
      · replace hw := hw.1 c_6
        refine lv_bipush (v := (-2)) hx hb dX7_sort_42 (by decide) ?_
        exact m_iret X P hr hw dX7_sort_44
      · replace hw := hw.2 c_6
        refine lv_iload hx hb dX7_sort_31 (lv_at hl 4 rfl) ?_
        refine lv_iconst (v := 0) hx hb dX7_sort_33 (by decide) ?_
        refine lv_bipush (v := 9) hx hb dX7_sort_34 (by decide) ?_
        refine cwm_in S hw ⟨Nat.le_of_ble_eq_true rfl, Nat.le_of_ble_eq_true rfl⟩ hl.1 (Nat.le_of_ble_eq_true rfl) dX7_sort_36 (fun r_7 hw => ?_)
        refine lv_if_ne (tgt := 45) hx hb dX7_sort_39 (by decide) (fun c_8 => ?_) (fun c_8 => ?_)
        · replace hw := hw.1 c_8
          refine lv_aload_n hx hb dX7_sort_45 rfl (lv_at hl 0 rfl) ?_
          refine mg_sorts X P dX7_sort_46 ?_
          refine lv_iconst (v := 4) hx hb dX7_sort_49 (by decide) ?_
          refine lv_icmp_ne (tgt := 56) hx hb dX7_sort_50 (by decide) (fun c_9 => ?_) (fun c_9 => ?_)
          · replace hw := hw.1 c_9
            refine lv_aload_n hx hb dX7_sort_56 rfl (lv_at hl 0 rfl) ?_
            refine mg_wished X P dX7_sort_57 ?_
            refine lv_aload_n hx hb dX7_sort_60 rfl (lv_at hl 0 rfl) ?_
            refine mg_sorts X P dX7_sort_61 ?_
            refine lv_iload_n hx hb dX7_sort_64 rfl (lv_at hl 1 rfl) ?_
            refine m_iast X P 3 rfl (by decide) hw.1 dX7_sort_65 (fun Ar_10 H locs eAr_10 P => ?_)
            replace hw := hw.2
            replace hw := hw Ar_10 eAr_10
            refine lv_aload_n hx hb dX7_sort_66 rfl (lv_at hl 0 rfl) ?_
            refine mg_stays X P dX7_sort_67 ?_
            refine lv_aload_n hx hb dX7_sort_70 rfl (lv_at hl 0 rfl) ?_
            refine mg_sorts X P dX7_sort_71 ?_
            refine lv_iload_n hx hb dX7_sort_74 rfl (lv_at hl 2 rfl) ?_
            refine m_iast X P 4 rfl (by decide) hw.1 dX7_sort_75 (fun Ar_11 H locs eAr_11 P => ?_)
            replace hw := hw.2
            replace hw := hw Ar_11 eAr_11
            refine lv_aload_n hx hb dX7_sort_76 rfl (lv_at hl 0 rfl) ?_
            refine mg_road X P dX7_sort_77 ?_
            refine lv_iconst (v := 2) hx hb dX7_sort_80 (by decide) ?_
            refine lv_aload_n hx hb dX7_sort_81 rfl (lv_at hl 0 rfl) ?_
            refine mg_sorts X P dX7_sort_82 ?_
            refine lv_imul hx hb dX7_sort_85 ?_
            refine lv_iload_n hx hb dX7_sort_86 rfl (lv_at hl 3 rfl) ?_
            refine m_iast X P 5 rfl (by decide) hw.1 dX7_sort_87 (fun Ar_12 H locs eAr_12 P => ?_)
            replace hw := hw.2
            replace hw := hw Ar_12 eAr_12
            refine lv_aload_n hx hb dX7_sort_88 rfl (lv_at hl 0 rfl) ?_
            refine mg_road X P dX7_sort_89 ?_
            refine lv_iconst (v := 2) hx hb dX7_sort_92 (by decide) ?_
            refine lv_aload_n hx hb dX7_sort_93 rfl (lv_at hl 0 rfl) ?_
            refine mg_sorts X P dX7_sort_94 ?_
            refine lv_imul hx hb dX7_sort_97 ?_
            refine lv_iconst (v := 1) hx hb dX7_sort_98 (by decide) ?_
            refine lv_iadd hx hb dX7_sort_99 ?_
            refine lv_iload hx hb dX7_sort_100 (lv_at hl 4 rfl) ?_
            refine m_iast X P 5 rfl (by decide) hw.1 dX7_sort_102 (fun Ar_13 H locs eAr_13 P => ?_)
            replace hw := hw.2
            replace hw := hw Ar_13 eAr_13
            refine lv_aload_n hx hb dX7_sort_103 rfl (lv_at hl 0 rfl) ?_
            refine lv_dup hx hb dX7_sort_104 rfl ?_
            refine mg_sorts X P dX7_sort_105 ?_
            refine lv_iconst (v := 1) hx hb dX7_sort_108 (by decide) ?_
            refine lv_iadd hx hb dX7_sort_109 ?_
            refine mp_sorts X P dX7_sort_110 (fun F_14 H locs eF_14 P => ?_)
            replace hw := hw F_14 eF_14
            refine lv_aload_n hx hb dX7_sort_113 rfl (lv_at hl 0 rfl) ?_
            refine mg_sorts X P dX7_sort_114 ?_
            refine lv_iconst (v := 1) hx hb dX7_sort_117 (by decide) ?_
            refine lv_isub hx hb dX7_sort_118 ?_
            exact m_iret X P hr hw dX7_sort_119
          · replace hw := hw.2 c_9
            refine lv_bipush (v := (-4)) hx hb dX7_sort_53 (by decide) ?_
            exact m_iret X P hr hw dX7_sort_55
        · replace hw := hw.2 c_8
          refine lv_bipush (v := (-2)) hx hb dX7_sort_42 (by decide) ?_
          exact m_iret X P hr hw dX7_sort_44
-- isSort
def wm_isSort (F : tF) (Ar : tA) (a1 : Int32) (Q : Int32 → Prop) : Prop :=
  wm_in a1 0 ((F 2) - 1) (fun r_1 => (r_1 = 0 ∨ r_1 = 1) ∧ Q r_1)
set_option maxHeartbeats 4000000 in
theorem twm_isSort (l : Launch) (D : va_G) (cl : List vw_C) (ci : Nat) (dA dL : ClassId) (ad : Nat → Nat) (F : tF) (Ar : tA) (a1 : Int32) (Q : Int32 → Prop) (hw : wm_isSort F Ar a1 Q) : Met l yX7_isSort (ws_ yX7_isSort cX7_isSort 2 (some .boolean)) ({ frames := 1, cells := 0, slots := 0, locals := 22 }) (mPc D cl ci dA dL ad F Ar [.int a1]) (vp_Si Q) 0 0 (fun _ => False) := by
  refine m_entry (by decide) rfl (Nat.le_of_ble_eq_true rfl) ?_
  intro p e s m below meth c ls X hr P hl
  obtain ⟨hx, hb, hml, hown, hts, -, -, hlk⟩ := id X
  have S : CallFix p m c _ _ s _ lw_all RX7 := ⟨hx, hb, hml, hown, hts⟩
  have hl : lv_has ls 2 [(0, .ref (ad 0)), (1, .int a1)] := hl
  refine lv_iload_n hx hb dX7_isSort_0 rfl (lv_at hl 1 rfl) ?_
  refine lv_iconst (v := 0) hx hb dX7_isSort_1 (by decide) ?_
  refine lv_aload_n hx hb dX7_isSort_2 rfl (lv_at hl 0 rfl) ?_
  refine mg_sorts X P dX7_isSort_3 ?_
  refine lv_iconst (v := 1) hx hb dX7_isSort_6 (by decide) ?_
  refine lv_isub hx hb dX7_isSort_7 ?_
  refine cwm_in S hw ⟨Nat.le_of_ble_eq_true rfl, Nat.le_of_ble_eq_true rfl⟩ hl.1 (Nat.le_of_ble_eq_true rfl) dX7_isSort_8 (fun r_1 hw => ?_)
  exact r_zret hx hb hlk hr hw.1 hw.2 dX7_isSort_11
theorem cwm_isSort {Q : Int32 → Prop} {a1 : Int32} {Z : State → Prop} {H : Heap} {locs : List Loc} {F : tF} {Ar : tA} (X : mCx p s m args meth c cc nL D cl ci dA dL) (P : mP D cl (mReg ad) ci dA dL ad s.heap F Ar H locs) (hw : wm_isSort F Ar a1 Q) (hR : 1 + 1 ≤ R.frames ∧ 8 + (2 + 11) + 22 ≤ R.locals) (hls : ls.size = nL) (hst : (rest.map fun v => v.category).sum ≤ 8) (hdg : decode cc pc = .ok (.invokevirtual 138, 3)) (kk : ∀ r, Q r → W p l e R s m args below meth c H locs 0 0 Z (F0 m (pc + 3) ls (.int r :: rest))) : W p l e R s m args below meth c H locs 0 0 Z (F0 m pc ls (.int a1 :: .ref (ad 0) :: rest)) := by
  obtain ⟨hx, hb, hml, hown, hts, hK, hc, hlk⟩ := X
  exact vp_callSi (m_runR (as := [.int a1]) hx hb hml hown hts hK hc P.1 P.2.1 (twm_isSort l D cl ci dA dL ad F Ar a1 Q hw) (cwV 1 hts (lw_V q1506 q1508 qs35 q88 q1509) rfl rfl rfl (by decide +kernel) hR) rfl hls hst hdg ⟨Nat.zero_le _, Nat.zero_le _⟩) kk
-- cart
def wm_cart (F : tF) (Ar : tA) (a1 : Int32) (Q : Int32 → tF → tA → Prop) : Prop :=
  wm_isSort F Ar a1 (fun r_1 => ((¬ r_1 = 0 → ((¬ (F 6) = 16 → vp_in (F 6) 16 ∧ ∀ Ar_4 : tA, Ar_4 = aset Ar 7 (F 6).toNatClampNeg a1 → ∀ F_5 : tF, F_5 = upd F 6 ((F 6) + 1) → Q ((F_5 6) - 1) F_5 Ar_4) ∧ ((F 6) = 16 → Q (-4) F Ar))) ∧ (r_1 = 0 → Q (-1) F Ar)))
set_option maxHeartbeats 4000000 in
theorem twm_cart (l : Launch) (D : va_G) (cl : List vw_C) (ci : Nat) (dA dL : ClassId) (ad : Nat → Nat) (F : tF) (Ar : tA) (a1 : Int32) (Q : Int32 → tF → tA → Prop) (hw : wm_cart F Ar a1 Q) : Met l yX7_cart (ws_ yX7_cart cX7_cart 2 (some .int)) ({ frames := 2, cells := 0, slots := 0, locals := 43 }) (mPc D cl ci dA dL ad F Ar [.int a1]) (mQi D cl ci dA dL ad Q) 0 0 (mReg ad) := by
  refine m_entry (by decide) rfl (Nat.le_of_ble_eq_true rfl) ?_
  intro p e s m below meth c ls X hr P hl
  obtain ⟨hx, hb, hml, hown, hts, -, -, hlk⟩ := id X
  have S : CallFix p m c _ _ s _ lw_all RX7 := ⟨hx, hb, hml, hown, hts⟩
  have hl : lv_has ls 2 [(0, .ref (ad 0)), (1, .int a1)] := hl
  refine lv_aload_n hx hb dX7_cart_0 rfl (lv_at hl 0 rfl) ?_
  refine lv_iload_n hx hb dX7_cart_1 rfl (lv_at hl 1 rfl) ?_
  refine cwm_isSort X P hw ⟨Nat.le_of_ble_eq_true rfl, Nat.le_of_ble_eq_true rfl⟩ hl.1 (Nat.le_of_ble_eq_true rfl) dX7_cart_2 (fun r_1 hw => ?_)
  refine lv_if_ne (tgt := 10) hx hb dX7_cart_5 (by decide) (fun c_2 => ?_) (fun c_2 => ?_)
  · replace hw := hw.1 c_2
    refine lv_aload_n hx hb dX7_cart_10 rfl (lv_at hl 0 rfl) ?_
    refine mg_carts X P dX7_cart_11 ?_
    refine lv_bipush (v := 16) hx hb dX7_cart_14 (by decide) ?_
    refine lv_icmp_ne (tgt := 22) hx hb dX7_cart_16 (by decide) (fun c_3 => ?_) (fun c_3 => ?_)
    · replace hw := hw.1 c_3
      refine lv_aload_n hx hb dX7_cart_22 rfl (lv_at hl 0 rfl) ?_
      refine mg_sortOf X P dX7_cart_23 ?_
      refine lv_aload_n hx hb dX7_cart_26 rfl (lv_at hl 0 rfl) ?_
      refine mg_carts X P dX7_cart_27 ?_
      refine lv_iload_n hx hb dX7_cart_30 rfl (lv_at hl 1 rfl) ?_
      refine m_iast X P 7 rfl (by decide) hw.1 dX7_cart_31 (fun Ar_4 H locs eAr_4 P => ?_)
      replace hw := hw.2
      replace hw := hw Ar_4 eAr_4
      refine lv_aload_n hx hb dX7_cart_32 rfl (lv_at hl 0 rfl) ?_
      refine lv_dup hx hb dX7_cart_33 rfl ?_
      refine mg_carts X P dX7_cart_34 ?_
      refine lv_iconst (v := 1) hx hb dX7_cart_37 (by decide) ?_
      refine lv_iadd hx hb dX7_cart_38 ?_
      refine mp_carts X P dX7_cart_39 (fun F_5 H locs eF_5 P => ?_)
      replace hw := hw F_5 eF_5
      refine lv_aload_n hx hb dX7_cart_42 rfl (lv_at hl 0 rfl) ?_
      refine mg_carts X P dX7_cart_43 ?_
      refine lv_iconst (v := 1) hx hb dX7_cart_46 (by decide) ?_
      refine lv_isub hx hb dX7_cart_47 ?_
      exact m_iret X P hr hw dX7_cart_48
    · replace hw := hw.2 c_3
      refine lv_bipush (v := (-4)) hx hb dX7_cart_19 (by decide) ?_
      exact m_iret X P hr hw dX7_cart_21
  · replace hw := hw.2 c_2
    refine lv_iconst (v := (-1)) hx hb dX7_cart_8 (by decide) ?_
    exact m_iret X P hr hw dX7_cart_9
-- wishes
def wm_wishes (F : tF) (Ar : tA) (a1 : Int32) (a2 : Int32) (Q : Int32 → tF → tA → Prop) : Prop :=
  wm_isSort F Ar a1 (fun r_1 => ((¬ r_1 = 0 → wm_in a2 0 23 (fun r_3 => ((¬ r_3 = 0 → vp_in a1 4 ∧ ∀ x3_5 : Int32, x3_5 = (Ar 3 a1.toNatClampNeg) → vp_in a1 4 ∧ ∀ Ar_6 : tA, Ar_6 = aset Ar 3 a1.toNatClampNeg a2 → Q x3_5 F Ar_6) ∧ (r_3 = 0 → Q (-7) F Ar)))) ∧ (r_1 = 0 → Q (-5) F Ar)))
set_option maxHeartbeats 4000000 in
theorem twm_wishes (l : Launch) (D : va_G) (cl : List vw_C) (ci : Nat) (dA dL : ClassId) (ad : Nat → Nat) (F : tF) (Ar : tA) (a1 : Int32) (a2 : Int32) (Q : Int32 → tF → tA → Prop) (hw : wm_wishes F Ar a1 a2 Q) : Met l yX7_wishes (ws_ yX7_wishes cX7_wishes 4 (some .int)) ({ frames := 2, cells := 0, slots := 0, locals := 43 }) (mPc D cl ci dA dL ad F Ar [.int a1, .int a2]) (mQi D cl ci dA dL ad Q) 0 0 (mReg ad) := by
  refine m_entry (by decide) rfl (Nat.le_of_ble_eq_true rfl) ?_
  intro p e s m below meth c ls X hr P hl
  obtain ⟨hx, hb, hml, hown, hts, -, -, hlk⟩ := id X
  have S : CallFix p m c _ _ s _ lw_all RX7 := ⟨hx, hb, hml, hown, hts⟩
  have hl : lv_has ls 4 [(0, .ref (ad 0)), (1, .int a1), (2, .int a2)] := hl
  refine lv_aload_n hx hb dX7_wishes_0 rfl (lv_at hl 0 rfl) ?_
  refine lv_iload_n hx hb dX7_wishes_1 rfl (lv_at hl 1 rfl) ?_
  refine cwm_isSort X P hw ⟨Nat.le_of_ble_eq_true rfl, Nat.le_of_ble_eq_true rfl⟩ hl.1 (Nat.le_of_ble_eq_true rfl) dX7_wishes_2 (fun r_1 hw => ?_)
  refine lv_if_ne (tgt := 11) hx hb dX7_wishes_5 (by decide) (fun c_2 => ?_) (fun c_2 => ?_)
  · replace hw := hw.1 c_2
    refine lv_iload_n hx hb dX7_wishes_11 rfl (lv_at hl 2 rfl) ?_
    refine lv_iconst (v := 0) hx hb dX7_wishes_12 (by decide) ?_
    refine lv_bipush (v := 23) hx hb dX7_wishes_13 (by decide) ?_
    refine cwm_in S hw ⟨Nat.le_of_ble_eq_true rfl, Nat.le_of_ble_eq_true rfl⟩ hl.1 (Nat.le_of_ble_eq_true rfl) dX7_wishes_15 (fun r_3 hw => ?_)
    refine lv_if_ne (tgt := 24) hx hb dX7_wishes_18 (by decide) (fun c_4 => ?_) (fun c_4 => ?_)
    · replace hw := hw.1 c_4
      refine lv_aload_n hx hb dX7_wishes_24 rfl (lv_at hl 0 rfl) ?_
      refine mg_wished X P dX7_wishes_25 ?_
      refine lv_iload_n hx hb dX7_wishes_28 rfl (lv_at hl 1 rfl) ?_
      refine m_iald X P 3 rfl (by decide) hw.1 dX7_wishes_29 ?_
      replace hw := hw.2
      refine lv_topi (fun x3_5 ex3_5 => ?_)
      replace hw := hw x3_5 ex3_5
      refine lv_istore_n (lv' := [(3, .int x3_5), (0, .ref (ad 0)), (1, .int a1), (2, .int a2)]) hx hb dX7_wishes_30 rfl hl (by decide) rfl (fun ls hl => ?_)
      refine lv_aload_n hx hb dX7_wishes_31 rfl (lv_at hl 1 rfl) ?_
      refine mg_wished X P dX7_wishes_32 ?_
      refine lv_iload_n hx hb dX7_wishes_35 rfl (lv_at hl 2 rfl) ?_
      refine lv_iload_n hx hb dX7_wishes_36 rfl (lv_at hl 3 rfl) ?_
      refine m_iast X P 3 rfl (by decide) hw.1 dX7_wishes_37 (fun Ar_6 H locs eAr_6 P => ?_)
      replace hw := hw.2
      replace hw := hw Ar_6 eAr_6
      refine lv_iload_n hx hb dX7_wishes_38 rfl (lv_at hl 0 rfl) ?_
      exact m_iret X P hr hw dX7_wishes_39
    · replace hw := hw.2 c_4
      refine lv_bipush (v := (-7)) hx hb dX7_wishes_21 (by decide) ?_
      exact m_iret X P hr hw dX7_wishes_23
  · replace hw := hw.2 c_2
    refine lv_bipush (v := (-5)) hx hb dX7_wishes_8 (by decide) ?_
    exact m_iret X P hr hw dX7_wishes_10
-- gateTold
def wm_gateTold (F : tF) (Ar : tA) (a1 : Int32) (a2 : Int32) (a3 : Int32) (Q : Int32 → Prop) : Prop :=
  wm_isGate a1 a2 (fun r_1 => ((¬ r_1 = 0 → ((¬ a3 = 0 → ((¬ a3 = 1 → Q (-7)) ∧ (a3 = 1 → vp_in ((24 * a1) + a2) 48 ∧ Q (Ar 1 ((24 * a1) + a2).toNatClampNeg)))) ∧ (a3 = 0 → vp_in ((24 * a1) + a2) 48 ∧ Q (Ar 0 ((24 * a1) + a2).toNatClampNeg)))) ∧ (r_1 = 0 → Q (-5))))
set_option maxHeartbeats 4000000 in
theorem twm_gateTold (l : Launch) (D : va_G) (cl : List vw_C) (ci : Nat) (dA dL : ClassId) (ad : Nat → Nat) (F : tF) (Ar : tA) (a1 : Int32) (a2 : Int32) (a3 : Int32) (Q : Int32 → Prop) (hw : wm_gateTold F Ar a1 a2 a3 Q) : Met l yX7_gateTold (ws_ yX7_gateTold cX7_gateTold 4 (some .int)) ({ frames := 2, cells := 0, slots := 0, locals := 43 }) (mPc D cl ci dA dL ad F Ar [.int a1, .int a2, .int a3]) (vp_Si Q) 0 0 (fun _ => False) := by
  refine m_entry (by decide) rfl (Nat.le_of_ble_eq_true rfl) ?_
  intro p e s m below meth c ls X hr P hl
  obtain ⟨hx, hb, hml, hown, hts, -, -, hlk⟩ := id X
  have S : CallFix p m c _ _ s _ lw_all RX7 := ⟨hx, hb, hml, hown, hts⟩
  have hl : lv_has ls 4 [(0, .ref (ad 0)), (1, .int a1), (2, .int a2), (3, .int a3)] := hl
  refine lv_iload_n hx hb dX7_gateTold_0 rfl (lv_at hl 1 rfl) ?_
  refine lv_iload_n hx hb dX7_gateTold_1 rfl (lv_at hl 2 rfl) ?_
  refine cwm_isGate S hw ⟨Nat.le_of_ble_eq_true rfl, Nat.le_of_ble_eq_true rfl⟩ hl.1 (Nat.le_of_ble_eq_true rfl) dX7_gateTold_2 (fun r_1 hw => ?_)
  refine lv_if_ne (tgt := 11) hx hb dX7_gateTold_5 (by decide) (fun c_2 => ?_) (fun c_2 => ?_)
  · replace hw := hw.1 c_2
    refine lv_iload_n hx hb dX7_gateTold_11 rfl (lv_at hl 3 rfl) ?_
    refine lv_if_ne (tgt := 29) hx hb dX7_gateTold_12 (by decide) (fun c_3 => ?_) (fun c_3 => ?_)
    · replace hw := hw.1 c_3
      refine lv_iload_n hx hb dX7_gateTold_29 rfl (lv_at hl 3 rfl) ?_
      refine lv_iconst (v := 1) hx hb dX7_gateTold_30 (by decide) ?_
      refine lv_icmp_ne (tgt := 48) hx hb dX7_gateTold_31 (by decide) (fun c_4 => ?_) (fun c_4 => ?_)
      · replace hw := hw.1 c_4
        refine lv_bipush (v := (-7)) hx hb dX7_gateTold_48 (by decide) ?_
        exact r_iret hx hb hlk hr hw dX7_gateTold_50
      · replace hw := hw.2 c_4
        refine lv_aload_n hx hb dX7_gateTold_34 rfl (lv_at hl 0 rfl) ?_
        refine mg_toll X P dX7_gateTold_35 ?_
        refine lv_bipush (v := 24) hx hb dX7_gateTold_38 (by decide) ?_
        refine lv_iload_n hx hb dX7_gateTold_40 rfl (lv_at hl 1 rfl) ?_
        refine lv_imul hx hb dX7_gateTold_41 ?_
        refine lv_iload_n hx hb dX7_gateTold_42 rfl (lv_at hl 2 rfl) ?_
        refine lv_iadd hx hb dX7_gateTold_43 ?_
        refine m_iald X P 1 rfl (by decide) hw.1 dX7_gateTold_44 ?_
        replace hw := hw.2
        refine lv_goto (tgt := 50) hx hb dX7_gateTold_45 (by decide) ?_
        exact r_iret hx hb hlk hr hw dX7_gateTold_50
    · replace hw := hw.2 c_3
      refine lv_aload_n hx hb dX7_gateTold_15 rfl (lv_at hl 0 rfl) ?_
      refine mg_rate X P dX7_gateTold_16 ?_
      refine lv_bipush (v := 24) hx hb dX7_gateTold_19 (by decide) ?_
      refine lv_iload_n hx hb dX7_gateTold_21 rfl (lv_at hl 1 rfl) ?_
      refine lv_imul hx hb dX7_gateTold_22 ?_
      refine lv_iload_n hx hb dX7_gateTold_23 rfl (lv_at hl 2 rfl) ?_
      refine lv_iadd hx hb dX7_gateTold_24 ?_
      refine m_iald X P 0 rfl (by decide) hw.1 dX7_gateTold_25 ?_
      replace hw := hw.2
      refine lv_goto (tgt := 50) hx hb dX7_gateTold_26 (by decide) ?_
      exact r_iret hx hb hlk hr hw dX7_gateTold_50
  · replace hw := hw.2 c_2
    refine lv_bipush (v := (-5)) hx hb dX7_gateTold_8 (by decide) ?_
    exact r_iret hx hb hlk hr hw dX7_gateTold_10
-- sortTold
def wm_sortTold_J64 (F : tF) (Ar : tA) (z0_8 : Int32) (z1_8 : Int32) (Q : Int32 → Prop) : Prop :=
  vp_in (z1_8 + z0_8) 8 ∧ Q (Ar 5 (z1_8 + z0_8).toNatClampNeg)
set_option maxHeartbeats 4000000 in
theorem kwm_sortTold_J64 {Q : Int32 → Prop} (X : mCx p s m args meth c cX7_sortTold 3 D cl ci dA dL) (hr : meth.sig.returnType = (some .int)) {F : tF} {Ar : tA} (z0_8 : Int32) (z1_8 : Int32) {ls : Array Slot} (P : mP D cl (mReg ad) ci dA dL ad s.heap F Ar s.heap []) (hl : lv_has ls 3 [(0, .ref (ad 0))]) (hw : wm_sortTold_J64 F Ar z0_8 z1_8 Q) : W p l e ({ frames := 2, cells := 0, slots := 0, locals := 43 }) s m args below meth c s.heap [] 0 0 (MQ below (vp_Si Q) args s 0 0 (fun _ => False)) (F0 m 64 ls [.int z0_8, .int z1_8, .ref (ad 6)]) := by
  obtain ⟨hx, hb, hml, hown, hts, -, -, hlk⟩ := id X
  have S : CallFix p m c _ _ s args lw_all RX7 := ⟨hx, hb, hml, hown, hts⟩
  refine lv_iadd hx hb dX7_sortTold_64 ?_
  refine m_iald X P 5 rfl (by decide) hw.1 dX7_sortTold_65 ?_
  replace hw := hw.2
  refine lv_goto (tgt := 71) hx hb dX7_sortTold_66 (by decide) ?_
  exact r_iret hx hb hlk hr hw dX7_sortTold_71
def wm_sortTold (F : tF) (Ar : tA) (a1 : Int32) (a2 : Int32) (Q : Int32 → Prop) : Prop :=
  wm_isSort F Ar a1 (fun r_1 => ((¬ r_1 = 0 → ((¬ a2 = 0 → ((¬ a2 = 1 → wm_in a2 2 3 (fun r_5 => ((r_5 = 0 → Q (-7)) ∧ (¬ r_5 = 0 → ((¬ a2 = 3 → (wm_sortTold_J64 F Ar 0 (2 * a1) Q)) ∧ (a2 = 3 → (wm_sortTold_J64 F Ar 1 (2 * a1) Q))))))) ∧ (a2 = 1 → vp_in a1 4 ∧ Q (Ar 4 a1.toNatClampNeg)))) ∧ (a2 = 0 → vp_in a1 4 ∧ Q (Ar 3 a1.toNatClampNeg)))) ∧ (r_1 = 0 → Q (-5))))
set_option maxHeartbeats 4000000 in
theorem twm_sortTold (l : Launch) (D : va_G) (cl : List vw_C) (ci : Nat) (dA dL : ClassId) (ad : Nat → Nat) (F : tF) (Ar : tA) (a1 : Int32) (a2 : Int32) (Q : Int32 → Prop) (hw : wm_sortTold F Ar a1 a2 Q) : Met l yX7_sortTold (ws_ yX7_sortTold cX7_sortTold 3 (some .int)) ({ frames := 2, cells := 0, slots := 0, locals := 43 }) (mPc D cl ci dA dL ad F Ar [.int a1, .int a2]) (vp_Si Q) 0 0 (fun _ => False) := by
  refine m_entry (by decide) rfl (Nat.le_of_ble_eq_true rfl) ?_
  intro p e s m below meth c ls X hr P hl
  obtain ⟨hx, hb, hml, hown, hts, -, -, hlk⟩ := id X
  have S : CallFix p m c _ _ s _ lw_all RX7 := ⟨hx, hb, hml, hown, hts⟩
  have hl : lv_has ls 3 [(0, .ref (ad 0)), (1, .int a1), (2, .int a2)] := hl
  refine lv_aload_n hx hb dX7_sortTold_0 rfl (lv_at hl 0 rfl) ?_
  refine lv_iload_n hx hb dX7_sortTold_1 rfl (lv_at hl 1 rfl) ?_
  refine cwm_isSort X P hw ⟨Nat.le_of_ble_eq_true rfl, Nat.le_of_ble_eq_true rfl⟩ hl.1 (Nat.le_of_ble_eq_true rfl) dX7_sortTold_2 (fun r_1 hw => ?_)
  refine lv_if_ne (tgt := 11) hx hb dX7_sortTold_5 (by decide) (fun c_2 => ?_) (fun c_2 => ?_)
  · replace hw := hw.1 c_2
    refine lv_iload_n hx hb dX7_sortTold_11 rfl (lv_at hl 2 rfl) ?_
    refine lv_if_ne (tgt := 24) hx hb dX7_sortTold_12 (by decide) (fun c_3 => ?_) (fun c_3 => ?_)
    · replace hw := hw.1 c_3
      refine lv_iload_n hx hb dX7_sortTold_24 rfl (lv_at hl 2 rfl) ?_
      refine lv_iconst (v := 1) hx hb dX7_sortTold_25 (by decide) ?_
      refine lv_icmp_ne (tgt := 38) hx hb dX7_sortTold_26 (by decide) (fun c_4 => ?_) (fun c_4 => ?_)
      · replace hw := hw.1 c_4
        refine lv_iload_n hx hb dX7_sortTold_38 rfl (lv_at hl 2 rfl) ?_
        refine lv_iconst (v := 2) hx hb dX7_sortTold_39 (by decide) ?_
        refine lv_iconst (v := 3) hx hb dX7_sortTold_40 (by decide) ?_
        refine cwm_in S hw ⟨Nat.le_of_ble_eq_true rfl, Nat.le_of_ble_eq_true rfl⟩ hl.1 (Nat.le_of_ble_eq_true rfl) dX7_sortTold_41 (fun r_5 hw => ?_)
        refine lv_if_eq (tgt := 69) hx hb dX7_sortTold_44 (by decide) (fun c_6 => ?_) (fun c_6 => ?_)
        · replace hw := hw.1 c_6
          refine lv_bipush (v := (-7)) hx hb dX7_sortTold_69 (by decide) ?_
          exact r_iret hx hb hlk hr hw dX7_sortTold_71
        · replace hw := hw.2 c_6
          refine lv_aload_n hx hb dX7_sortTold_47 rfl (lv_at hl 0 rfl) ?_
          refine mg_road X P dX7_sortTold_48 ?_
          refine lv_iconst (v := 2) hx hb dX7_sortTold_51 (by decide) ?_
          refine lv_iload_n hx hb dX7_sortTold_52 rfl (lv_at hl 1 rfl) ?_
          refine lv_imul hx hb dX7_sortTold_53 ?_
          refine lv_iload_n hx hb dX7_sortTold_54 rfl (lv_at hl 2 rfl) ?_
          refine lv_iconst (v := 3) hx hb dX7_sortTold_55 (by decide) ?_
          refine lv_icmp_ne (tgt := 63) hx hb dX7_sortTold_56 (by decide) (fun c_7 => ?_) (fun c_7 => ?_)
          · replace hw := hw.1 c_7
            refine lv_iconst (v := 0) hx hb dX7_sortTold_63 (by decide) ?_
            exact kwm_sortTold_J64 X hr _ _ P (lv_sub hl [0] rfl) hw
          · replace hw := hw.2 c_7
            refine lv_iconst (v := 1) hx hb dX7_sortTold_59 (by decide) ?_
            refine lv_goto (tgt := 64) hx hb dX7_sortTold_60 (by decide) ?_
            exact kwm_sortTold_J64 X hr _ _ P (lv_sub hl [0] rfl) hw
      · replace hw := hw.2 c_4
        refine lv_aload_n hx hb dX7_sortTold_29 rfl (lv_at hl 0 rfl) ?_
        refine mg_stays X P dX7_sortTold_30 ?_
        refine lv_iload_n hx hb dX7_sortTold_33 rfl (lv_at hl 1 rfl) ?_
        refine m_iald X P 4 rfl (by decide) hw.1 dX7_sortTold_34 ?_
        replace hw := hw.2
        refine lv_goto (tgt := 71) hx hb dX7_sortTold_35 (by decide) ?_
        exact r_iret hx hb hlk hr hw dX7_sortTold_71
    · replace hw := hw.2 c_3
      refine lv_aload_n hx hb dX7_sortTold_15 rfl (lv_at hl 0 rfl) ?_
      refine mg_wished X P dX7_sortTold_16 ?_
      refine lv_iload_n hx hb dX7_sortTold_19 rfl (lv_at hl 1 rfl) ?_
      refine m_iald X P 3 rfl (by decide) hw.1 dX7_sortTold_20 ?_
      replace hw := hw.2
      refine lv_goto (tgt := 71) hx hb dX7_sortTold_21 (by decide) ?_
      exact r_iret hx hb hlk hr hw dX7_sortTold_71
  · replace hw := hw.2 c_2
    refine lv_bipush (v := (-5)) hx hb dX7_sortTold_8 (by decide) ?_
    exact r_iret hx hb hlk hr hw dX7_sortTold_10
-- feed
def wm_feed_L33 (y1_5 : Int64) (Kx75_5 : tF → tA → Prop) (Q : Int32 → tF → tA → Prop) : Nat → tF → tA → Int32 → Prop
  | 0, _, _, _ => False
  | f33 + 1, F, Ar, y4_5 =>
    ((y4_5 < 0 → (Kx75_5 F Ar)) ∧ (¬ y4_5 < 0 → vp_in (F 13) 160 ∧ ∀ Ar_7 : tA, Ar_7 = aset Ar 12 (F 13).toNatClampNeg (((y1_5 >>> ((8 * y4_5).toInt64 &&& 63)) &&& 255).toInt32) → ∀ F_8 : tF, F_8 = upd F 13 ((F 13) + 1) → ((wm_feed_L33 y1_5 Kx75_5 Q f33) F_8 Ar_7 (y4_5 + (-1)))))
set_option maxHeartbeats 4000000 in
theorem kwm_feed_L33 {Q : Int32 → tF → tA → Prop} (X : mCx p s m args meth c cX7_feed 5 D cl ci dA dL) (hr : meth.sig.returnType = (some .int)) (y1_5 : Int64) (Kx75_5 : tF → tA → Prop) (hKx75_5 : ∀ (F_ : tF) (Ar_ : tA) (H : Heap) (locs : List Loc) (ls : Array Slot), mP D cl (mReg ad) ci dA dL ad s.heap F_ Ar_ H locs → lv_has ls 5 [(0, .ref (ad 0))] → Kx75_5 F_ Ar_ → W p l e ({ frames := 1, cells := 0, slots := 0, locals := 22 }) s m args below meth c H locs 0 0 (MQ below (mQi D cl ci dA dL ad Q) args s 0 0 (mReg ad)) (F0 m 75 ls [])) : ∀ (n : Nat) (F : tF) (Ar : tA) (y4_5 : Int32) (H : Heap) (locs : List Loc) (ls : Array Slot), mP D cl (mReg ad) ci dA dL ad s.heap F Ar H locs → lv_has ls 5 [(0, .ref (ad 0)), (1, .long y1_5), (4, .int y4_5)] → wm_feed_L33 y1_5 Kx75_5 Q n F Ar y4_5 → W p l e ({ frames := 1, cells := 0, slots := 0, locals := 22 }) s m args below meth c H locs 0 0 (MQ below (mQi D cl ci dA dL ad Q) args s 0 0 (mReg ad)) (F0 m 33 ls []) := by
  obtain ⟨hx, hb, hml, hown, hts, -, -, hlk⟩ := id X
  have S : CallFix p m c _ _ s args lw_all RX7 := ⟨hx, hb, hml, hown, hts⟩
  intro n
  induction n with
  | zero =>
    intro F Ar y4_5 H locs ls P hl hw
    exact hw.elim
  | succ n ih =>
    intro F Ar y4_5 H locs ls P hl hw
    have hKh33_5 := ih
    refine lv_iload hx hb dX7_feed_33 (lv_at hl 2 rfl) ?_
    refine lv_if_lt (tgt := 75) hx hb dX7_feed_35 (by decide) (fun c_6 => ?_) (fun c_6 => ?_)
    · replace hw := hw.1 c_6
      exact hKx75_5 _ _ _ _ _ P (lv_sub hl [0] rfl) hw
    · replace hw := hw.2 c_6
      refine lv_aload_n hx hb dX7_feed_38 rfl (lv_at hl 0 rfl) ?_
      refine mg_tape X P dX7_feed_39 ?_
      refine lv_aload_n hx hb dX7_feed_42 rfl (lv_at hl 0 rfl) ?_
      refine mg_taped X P dX7_feed_43 ?_
      refine lv_lload_n hx hb dX7_feed_46 rfl (lv_at hl 1 rfl) ?_
      refine lv_bipush (v := 8) hx hb dX7_feed_47 (by decide) ?_
      refine lv_iload hx hb dX7_feed_49 (lv_at hl 2 rfl) ?_
      refine lv_imul hx hb dX7_feed_51 ?_
      refine lv_lshr hx hb dX7_feed_52 rfl ?_
      refine lv_ldc2 (v := 255) hx hb hown (hts _ q1526) dX7_feed_53 ?_
      refine lv_land hx hb dX7_feed_56 ?_
      refine lv_l2i hx hb dX7_feed_57 rfl ?_
      refine m_iast X P 12 rfl (by decide) hw.1 dX7_feed_58 (fun Ar_7 H locs eAr_7 P => ?_)
      replace hw := hw.2
      replace hw := hw Ar_7 eAr_7
      refine lv_aload_n hx hb dX7_feed_59 rfl (lv_at hl 0 rfl) ?_
      refine lv_dup hx hb dX7_feed_60 rfl ?_
      refine mg_taped X P dX7_feed_61 ?_
      refine lv_iconst (v := 1) hx hb dX7_feed_64 (by decide) ?_
      refine lv_iadd hx hb dX7_feed_65 ?_
      refine mp_taped X P dX7_feed_66 (fun F_8 H locs eF_8 P => ?_)
      replace hw := hw F_8 eF_8
      refine lv_iinc (v := (y4_5 + (-1))) (lv' := [(4, .int (y4_5 + (-1))), (0, .ref (ad 0)), (1, .long y1_5)]) hx hb dX7_feed_69 hl (k := 2) rfl rfl (by decide) rfl (fun ls hl => ?_)
      refine lv_goto (tgt := 33) hx hb dX7_feed_72 (by decide) ?_
      exact hKh33_5 _ _ _ _ _ _ P (lv_sub hl [1, 2, 0] rfl) hw
def wm_feed (F : tF) (Ar : tA) (a1 : Int64) (a2 : Int32) (Q : Int32 → tF → tA → Prop) : Prop :=
  wm_in a2 1 8 (fun r_1 => ((¬ r_1 = 0 → ((((F 13) + a2) ≤ 160 → ∀ x4_4 : Int32, x4_4 = (a2 - 1) → (∃ n33, wm_feed_L33 a1 (fun (F_9 : tF) (Ar_10 : tA) => Q (F_9 13) F_9 Ar_10) Q n33 F Ar x4_4)) ∧ (¬ ((F 13) + a2) ≤ 160 → Q (-4) F Ar))) ∧ (r_1 = 0 → Q (-2) F Ar)))
set_option maxHeartbeats 4000000 in
theorem twm_feed (l : Launch) (D : va_G) (cl : List vw_C) (ci : Nat) (dA dL : ClassId) (ad : Nat → Nat) (F : tF) (Ar : tA) (a1 : Int64) (a2 : Int32) (Q : Int32 → tF → tA → Prop) (hw : wm_feed F Ar a1 a2 Q) : Met l yX7_feed (ws_ yX7_feed cX7_feed 5 (some .int)) ({ frames := 1, cells := 0, slots := 0, locals := 22 }) (mPc D cl ci dA dL ad F Ar [.long a1, .int a2]) (mQi D cl ci dA dL ad Q) 0 0 (mReg ad) := by
  refine m_entry (by decide) rfl (Nat.le_of_ble_eq_true rfl) ?_
  intro p e s m below meth c ls X hr P hl
  obtain ⟨hx, hb, hml, hown, hts, -, -, hlk⟩ := id X
  have S : CallFix p m c _ _ s _ lw_all RX7 := ⟨hx, hb, hml, hown, hts⟩
  have hl : lv_has ls 5 [(0, .ref (ad 0)), (1, .long a1), (3, .int a2)] := hl
  refine lv_iload_n hx hb dX7_feed_0 rfl (lv_at hl 2 rfl) ?_
  refine lv_iconst (v := 1) hx hb dX7_feed_1 (by decide) ?_
  refine lv_bipush (v := 8) hx hb dX7_feed_2 (by decide) ?_
  refine cwm_in S hw ⟨Nat.le_of_ble_eq_true rfl, Nat.le_of_ble_eq_true rfl⟩ hl.1 (Nat.le_of_ble_eq_true rfl) dX7_feed_4 (fun r_1 hw => ?_)
  refine lv_if_ne (tgt := 13) hx hb dX7_feed_7 (by decide) (fun c_2 => ?_) (fun c_2 => ?_)
  · replace hw := hw.1 c_2
    refine lv_aload_n hx hb dX7_feed_13 rfl (lv_at hl 0 rfl) ?_
    refine mg_taped X P dX7_feed_14 ?_
    refine lv_iload_n hx hb dX7_feed_17 rfl (lv_at hl 2 rfl) ?_
    refine lv_iadd hx hb dX7_feed_18 ?_
    refine lv_sipush (v := 160) hx hb dX7_feed_19 (by decide) ?_
    refine lv_icmp_le (tgt := 28) hx hb dX7_feed_22 (by decide) (fun c_3 => ?_) (fun c_3 => ?_)
    · replace hw := hw.1 c_3
      refine lv_iload_n hx hb dX7_feed_28 rfl (lv_at hl 2 rfl) ?_
      refine lv_iconst (v := 1) hx hb dX7_feed_29 (by decide) ?_
      refine lv_isub hx hb dX7_feed_30 ?_
      refine lv_topi (fun x4_4 ex4_4 => ?_)
      replace hw := hw x4_4 ex4_4
      refine lv_istore (lv' := [(4, .int x4_4), (0, .ref (ad 0)), (1, .long a1), (3, .int a2)]) hx hb dX7_feed_31 hl (by decide) rfl (fun ls hl => ?_)
      obtain ⟨n_11, hw⟩ := hw
      refine kwm_feed_L33 X hr _ _   ?_ n_11 _ _ _ _ _ _ P (lv_sub hl [1, 2, 0] rfl) hw
      · intro F_9 Ar_10 H locs ls P hl hw
        refine lv_aload_n hx hb dX7_feed_75 rfl (lv_at hl 0 rfl) ?_
        refine mg_taped X P dX7_feed_76 ?_
        exact m_iret X P hr hw dX7_feed_79
    · replace hw := hw.2 c_3
      refine lv_bipush (v := (-4)) hx hb dX7_feed_25 (by decide) ?_
      exact m_iret X P hr hw dX7_feed_27
  · replace hw := hw.2 c_2
    refine lv_bipush (v := (-2)) hx hb dX7_feed_10 (by decide) ?_
    exact m_iret X P hr hw dX7_feed_12
-- holds
def wm_holds (F : tF) (Ar : tA) (a1 : Int32) (Q : tF → tA → Prop) : Prop :=
  vp_in (F 35) 200 ∧ ∀ Ar_1 : tA, Ar_1 = aset Ar 34 (F 35).toNatClampNeg a1 → ∀ F_2 : tF, F_2 = upd F 35 ((F 35) + 1) → Q F_2 Ar_1
set_option maxHeartbeats 4000000 in
theorem twm_holds (l : Launch) (D : va_G) (cl : List vw_C) (ci : Nat) (dA dL : ClassId) (ad : Nat → Nat) (F : tF) (Ar : tA) (a1 : Int32) (Q : tF → tA → Prop) (hw : wm_holds F Ar a1 Q) : Met l yX7_holds (ws_ yX7_holds cX7_holds 2 none) ({ frames := 0, cells := 0, slots := 0, locals := 0 }) (mPc D cl ci dA dL ad F Ar [.int a1]) (mQv D cl ci dA dL ad Q) 0 0 (mReg ad) := by
  refine m_entry (by decide) rfl (Nat.le_of_ble_eq_true rfl) ?_
  intro p e s m below meth c ls X hr P hl
  obtain ⟨hx, hb, hml, hown, hts, -, -, hlk⟩ := id X
  have S : CallFix p m c _ _ s _ lw_all RX7 := ⟨hx, hb, hml, hown, hts⟩
  have hl : lv_has ls 2 [(0, .ref (ad 0)), (1, .int a1)] := hl
  refine lv_aload_n hx hb dX7_holds_0 rfl (lv_at hl 0 rfl) ?_
  refine mg_held X P dX7_holds_1 ?_
  refine lv_aload_n hx hb dX7_holds_4 rfl (lv_at hl 0 rfl) ?_
  refine mg_heldMany X P dX7_holds_5 ?_
  refine lv_iload_n hx hb dX7_holds_8 rfl (lv_at hl 1 rfl) ?_
  refine m_iast X P 34 rfl (by decide) hw.1 dX7_holds_9 (fun Ar_1 H locs eAr_1 P => ?_)
  replace hw := hw.2
  replace hw := hw Ar_1 eAr_1
  refine lv_aload_n hx hb dX7_holds_10 rfl (lv_at hl 0 rfl) ?_
  refine lv_dup hx hb dX7_holds_11 rfl ?_
  refine mg_heldMany X P dX7_holds_12 ?_
  refine lv_iconst (v := 1) hx hb dX7_holds_15 (by decide) ?_
  refine lv_iadd hx hb dX7_holds_16 ?_
  refine mp_heldMany X P dX7_holds_17 (fun F_2 H locs eF_2 P => ?_)
  replace hw := hw F_2 eF_2
  exact m_vret X P hr hw dX7_holds_20
theorem cwm_holds {Q : tF → tA → Prop} {a1 : Int32} {Z : State → Prop} {H : Heap} {locs : List Loc} {F : tF} {Ar : tA} (X : mCx p s m args meth c cc nL D cl ci dA dL) (P : mP D cl (mReg ad) ci dA dL ad s.heap F Ar H locs) (hw : wm_holds F Ar a1 Q) (hR : 0 + 1 ≤ R.frames ∧ 8 + (2 + 11) + 0 ≤ R.locals) (hls : ls.size = nL) (hst : (rest.map fun v => v.category).sum ≤ 8) (hdg : decode cc pc = .ok (.invokevirtual 183, 3)) (kk : ∀ (F1 : tF) (A1 : tA) (H1 : Heap) (locs1 : List Loc), Q F1 A1 → mP D cl (mReg ad) ci dA dL ad s.heap F1 A1 H1 locs1 → W p l e R s m args below meth c H1 locs1 0 0 Z (F0 m (pc + 3) ls (rest))) : W p l e R s m args below meth c H locs 0 0 Z (F0 m pc ls (.int a1 :: .ref (ad 0) :: rest)) := by
  obtain ⟨hx, hb, hml, hown, hts, hK, hc, hlk⟩ := X
  exact va_callv (m_runV (as := [.int a1]) hx hb hml hown hts hK hc P.1 P.2.1 (twm_holds l D cl ci dA dL ad F Ar a1 Q hw) (cwV 1 hts (lw_V q1559 q1561 qs42 q88 q1562) rfl rfl rfl (by decide +kernel) hR) rfl hls hst hdg ⟨Nat.zero_le _, Nat.zero_le _⟩) P.2.2 (fun q _ h => h) (fun q h => h) (fun u t H1 locs1 ht hvm hp hB _ _ hS => kk u.1 u.2 H1 locs1 hp ⟨by rw [← ht]; exact hB, P.2.1.to (fun k h => mM_dom.mpr (mM_dom.mp h)), hS⟩)
-- rank
def wm_rank (a1 : Int32) (Q : Int32 → Prop) : Prop :=
  ((¬ a1 = 0 → ((¬ a1 = 11 → ((¬ a1 = 12 → ((¬ a1 = 13 → (((15 : Int32) < a1 → (((17 : Int32) < a1 → ((¬ a1 = 18 → Q 7) ∧ (a1 = 18 → Q 6))) ∧ (¬ (17 : Int32) < a1 → Q 5))) ∧ (¬ (15 : Int32) < a1 → Q 4))) ∧ (a1 = 13 → Q 3))) ∧ (a1 = 12 → Q 2))) ∧ (a1 = 11 → Q 1))) ∧ (a1 = 0 → Q 0))
set_option maxHeartbeats 4000000 in
theorem twm_rank (l : Launch) (a1 : Int32) (Q : Int32 → Prop) (hw : wm_rank a1 Q) : Met l yX7_rank (ws_ yX7_rank cX7_rank 1 (some .int)) ({ frames := 0, cells := 0, slots := 0, locals := 0 }) (va_Pc [.int a1] (fun _ => True)) (vp_Si Q) 0 0 (fun _ => False) := by
  refine s_entry (by decide) (Nat.le_of_ble_eq_true rfl) ?_
  intro p e s m below meth c ls hx hb hml hown hts hlk hr hl
  have hown : s.vm.findClass RX7 = some m.cls := hown
  have X : sCx p s m _ meth c cX7_rank 1 RX7 := ⟨hx, hb, hml, hown, hts, hlk⟩
  have S : CallFix p m c _ _ s _ lw_all RX7 := ⟨hx, hb, hml, hown, hts⟩
  have hl : lv_has ls 1 [(0, .int a1)] := hl
  refine lv_iload_n hx hb dX7_rank_0 rfl (lv_at hl 0 rfl) ?_
  refine lv_if_ne (tgt := 8) hx hb dX7_rank_1 (by decide) (fun c_1 => ?_) (fun c_1 => ?_)
  · replace hw := hw.1 c_1
    refine lv_iload_n hx hb dX7_rank_8 rfl (lv_at hl 0 rfl) ?_
    refine lv_bipush (v := 11) hx hb dX7_rank_9 (by decide) ?_
    refine lv_icmp_ne (tgt := 18) hx hb dX7_rank_11 (by decide) (fun c_2 => ?_) (fun c_2 => ?_)
    · replace hw := hw.1 c_2
      refine lv_iload_n hx hb dX7_rank_18 rfl (lv_at hl 0 rfl) ?_
      refine lv_bipush (v := 12) hx hb dX7_rank_19 (by decide) ?_
      refine lv_icmp_ne (tgt := 28) hx hb dX7_rank_21 (by decide) (fun c_3 => ?_) (fun c_3 => ?_)
      · replace hw := hw.1 c_3
        refine lv_iload_n hx hb dX7_rank_28 rfl (lv_at hl 0 rfl) ?_
        refine lv_bipush (v := 13) hx hb dX7_rank_29 (by decide) ?_
        refine lv_icmp_ne (tgt := 38) hx hb dX7_rank_31 (by decide) (fun c_4 => ?_) (fun c_4 => ?_)
        · replace hw := hw.1 c_4
          refine lv_iload_n hx hb dX7_rank_38 rfl (lv_at hl 0 rfl) ?_
          refine lv_bipush (v := 15) hx hb dX7_rank_39 (by decide) ?_
          refine lv_icmp_gt (tgt := 48) hx hb dX7_rank_41 (by decide) (fun c_5 => ?_) (fun c_5 => ?_)
          · replace hw := hw.1 c_5
            refine lv_iload_n hx hb dX7_rank_48 rfl (lv_at hl 0 rfl) ?_
            refine lv_bipush (v := 17) hx hb dX7_rank_49 (by decide) ?_
            refine lv_icmp_gt (tgt := 58) hx hb dX7_rank_51 (by decide) (fun c_6 => ?_) (fun c_6 => ?_)
            · replace hw := hw.1 c_6
              refine lv_iload_n hx hb dX7_rank_58 rfl (lv_at hl 0 rfl) ?_
              refine lv_bipush (v := 18) hx hb dX7_rank_59 (by decide) ?_
              refine lv_icmp_ne (tgt := 69) hx hb dX7_rank_61 (by decide) (fun c_7 => ?_) (fun c_7 => ?_)
              · replace hw := hw.1 c_7
                refine lv_bipush (v := 7) hx hb dX7_rank_69 (by decide) ?_
                exact r_iret hx hb hlk hr hw dX7_rank_71
              · replace hw := hw.2 c_7
                refine lv_bipush (v := 6) hx hb dX7_rank_64 (by decide) ?_
                refine lv_goto (tgt := 71) hx hb dX7_rank_66 (by decide) ?_
                exact r_iret hx hb hlk hr hw dX7_rank_71
            · replace hw := hw.2 c_6
              refine lv_iconst (v := 5) hx hb dX7_rank_54 (by decide) ?_
              refine lv_goto (tgt := 71) hx hb dX7_rank_55 (by decide) ?_
              exact r_iret hx hb hlk hr hw dX7_rank_71
          · replace hw := hw.2 c_5
            refine lv_iconst (v := 4) hx hb dX7_rank_44 (by decide) ?_
            refine lv_goto (tgt := 71) hx hb dX7_rank_45 (by decide) ?_
            exact r_iret hx hb hlk hr hw dX7_rank_71
        · replace hw := hw.2 c_4
          refine lv_iconst (v := 3) hx hb dX7_rank_34 (by decide) ?_
          refine lv_goto (tgt := 71) hx hb dX7_rank_35 (by decide) ?_
          exact r_iret hx hb hlk hr hw dX7_rank_71
      · replace hw := hw.2 c_3
        refine lv_iconst (v := 2) hx hb dX7_rank_24 (by decide) ?_
        refine lv_goto (tgt := 71) hx hb dX7_rank_25 (by decide) ?_
        exact r_iret hx hb hlk hr hw dX7_rank_71
    · replace hw := hw.2 c_2
      refine lv_iconst (v := 1) hx hb dX7_rank_14 (by decide) ?_
      refine lv_goto (tgt := 71) hx hb dX7_rank_15 (by decide) ?_
      exact r_iret hx hb hlk hr hw dX7_rank_71
  · replace hw := hw.2 c_1
    refine lv_iconst (v := 0) hx hb dX7_rank_4 (by decide) ?_
    refine lv_goto (tgt := 71) hx hb dX7_rank_5 (by decide) ?_
    exact r_iret hx hb hlk hr hw dX7_rank_71
theorem cwm_rank {Q : Int32 → Prop} {a1 : Int32} {Z : State → Prop} {H : Heap} {locs : List Loc} (S : CallFix p m c cc nL s args lw_all RX7) (hw : wm_rank a1 Q) (hR : 0 + 1 ≤ R.frames ∧ 8 + (1 + 11) + 0 ≤ R.locals) (hls : ls.size = nL) (hst : (rest.map fun v => v.category).sum ≤ 8) (hdg : decode cc pc = .ok (.invokestatic 172, 3)) (kk : ∀ r, Q r → W p l e R s m args below meth c H locs 0 0 Z (F0 m (pc + 3) ls (.int r :: rest))) : W p l e R s m args below meth c H locs 0 0 Z (F0 m pc ls (.int a1 :: rest)) :=
  vp_callSi (s_runR (as := [.int a1]) S (twm_rank l a1 Q hw) (va_cwS 1 S.2.2.2.2 (lw_S q1552 q1553 q88 q1554) rfl rfl rfl (by decide +kernel) hR) rfl hls hst hdg ⟨Nat.zero_le _, Nat.zero_le _⟩) kk
-- puts
def wm_puts (F : tF) (Ar : tA) (a1 : Int32) (Q : tF → tA → Prop) : Prop :=
  vp_in ((200 * (F 16)) + (F 37)) 1200 ∧ ∀ Ar_1 : tA, Ar_1 = aset Ar 14 ((200 * (F 16)) + (F 37)).toNatClampNeg a1 → ∀ F_2 : tF, F_2 = upd F 37 ((F 37) + 1) → Q F_2 Ar_1
set_option maxHeartbeats 4000000 in
theorem twm_puts (l : Launch) (D : va_G) (cl : List vw_C) (ci : Nat) (dA dL : ClassId) (ad : Nat → Nat) (F : tF) (Ar : tA) (a1 : Int32) (Q : tF → tA → Prop) (hw : wm_puts F Ar a1 Q) : Met l yX7_puts (ws_ yX7_puts cX7_puts 2 none) ({ frames := 0, cells := 0, slots := 0, locals := 0 }) (mPc D cl ci dA dL ad F Ar [.int a1]) (mQv D cl ci dA dL ad Q) 0 0 (mReg ad) := by
  refine m_entry (by decide) rfl (Nat.le_of_ble_eq_true rfl) ?_
  intro p e s m below meth c ls X hr P hl
  obtain ⟨hx, hb, hml, hown, hts, -, -, hlk⟩ := id X
  have S : CallFix p m c _ _ s _ lw_all RX7 := ⟨hx, hb, hml, hown, hts⟩
  have hl : lv_has ls 2 [(0, .ref (ad 0)), (1, .int a1)] := hl
  refine lv_aload_n hx hb dX7_puts_0 rfl (lv_at hl 0 rfl) ?_
  refine mg_codes X P dX7_puts_1 ?_
  refine lv_sipush (v := 200) hx hb dX7_puts_4 (by decide) ?_
  refine lv_aload_n hx hb dX7_puts_7 rfl (lv_at hl 0 rfl) ?_
  refine mg_texts X P dX7_puts_8 ?_
  refine lv_imul hx hb dX7_puts_11 ?_
  refine lv_aload_n hx hb dX7_puts_12 rfl (lv_at hl 0 rfl) ?_
  refine mg_out X P dX7_puts_13 ?_
  refine lv_iadd hx hb dX7_puts_16 ?_
  refine lv_iload_n hx hb dX7_puts_17 rfl (lv_at hl 1 rfl) ?_
  refine m_iast X P 14 rfl (by decide) hw.1 dX7_puts_18 (fun Ar_1 H locs eAr_1 P => ?_)
  replace hw := hw.2
  replace hw := hw Ar_1 eAr_1
  refine lv_aload_n hx hb dX7_puts_19 rfl (lv_at hl 0 rfl) ?_
  refine lv_dup hx hb dX7_puts_20 rfl ?_
  refine mg_out X P dX7_puts_21 ?_
  refine lv_iconst (v := 1) hx hb dX7_puts_24 (by decide) ?_
  refine lv_iadd hx hb dX7_puts_25 ?_
  refine mp_out X P dX7_puts_26 (fun F_2 H locs eF_2 P => ?_)
  replace hw := hw F_2 eF_2
  exact m_vret X P hr hw dX7_puts_29
theorem cwm_puts {Q : tF → tA → Prop} {a1 : Int32} {Z : State → Prop} {H : Heap} {locs : List Loc} {F : tF} {Ar : tA} (X : mCx p s m args meth c cc nL D cl ci dA dL) (P : mP D cl (mReg ad) ci dA dL ad s.heap F Ar H locs) (hw : wm_puts F Ar a1 Q) (hR : 0 + 1 ≤ R.frames ∧ 8 + (2 + 11) + 0 ≤ R.locals) (hls : ls.size = nL) (hst : (rest.map fun v => v.category).sum ≤ 8) (hdg : decode cc pc = .ok (.invokevirtual 179, 3)) (kk : ∀ (F1 : tF) (A1 : tA) (H1 : Heap) (locs1 : List Loc), Q F1 A1 → mP D cl (mReg ad) ci dA dL ad s.heap F1 A1 H1 locs1 → W p l e R s m args below meth c H1 locs1 0 0 Z (F0 m (pc + 3) ls (rest))) : W p l e R s m args below meth c H locs 0 0 Z (F0 m pc ls (.int a1 :: .ref (ad 0) :: rest)) := by
  obtain ⟨hx, hb, hml, hown, hts, hK, hc, hlk⟩ := X
  exact va_callv (m_runV (as := [.int a1]) hx hb hml hown hts hK hc P.1 P.2.1 (twm_puts l D cl ci dA dL ad F Ar a1 Q hw) (cwV 1 hts (lw_V q1544 q1546 qs39 q88 q1547) rfl rfl rfl (by decide +kernel) hR) rfl hls hst hdg ⟨Nat.zero_le _, Nat.zero_le _⟩) P.2.2 (fun q _ h => h) (fun q h => h) (fun u t H1 locs1 ht hvm hp hB _ _ hS => kk u.1 u.2 H1 locs1 hp ⟨by rw [← ht]; exact hB, P.2.1.to (fun k h => mM_dom.mpr (mM_dom.mp h)), hS⟩)
-- unwinds
def wm_unwinds_J67 (F : tF) (Ar : tA) (y1_9 : Int32) (y2_9 : Int32) (z0_9 : Int32) (z1_9 : Int32) (Kh0_1 : tF → tA → Prop) (Q : tF → tA → Prop) : Prop :=
  ∀ F_10 : tF, F_10 = upd F 36 (z1_9 - z0_9) → wm_puts F_10 Ar y2_9 (fun F_12 Ar_13 => (Kh0_1 F_12 Ar_13))
set_option maxHeartbeats 4000000 in
theorem kwm_unwinds_J67 {Q : tF → tA → Prop} (X : mCx p s m args meth c cX7_unwinds 3 D cl ci dA dL) (hr : meth.sig.returnType = none) {F : tF} {Ar : tA} (y1_9 : Int32) (y2_9 : Int32) (z0_9 : Int32) (z1_9 : Int32) (Kh0_1 : tF → tA → Prop) {H : Heap} {locs : List Loc} {ls : Array Slot} (P : mP D cl (mReg ad) ci dA dL ad s.heap F Ar H locs) (hl : lv_has ls 3 [(0, .ref (ad 0)), (1, .int y1_9), (2, .int y2_9)]) (hw : wm_unwinds_J67 F Ar y1_9 y2_9 z0_9 z1_9 Kh0_1 Q) (hKh0_1 : ∀ (F_ : tF) (Ar_ : tA) (H : Heap) (locs : List Loc) (ls : Array Slot), mP D cl (mReg ad) ci dA dL ad s.heap F_ Ar_ H locs → lv_has ls 3 [(0, .ref (ad 0)), (1, .int y1_9)] → Kh0_1 F_ Ar_ → W p l e ({ frames := 1, cells := 0, slots := 0, locals := 21 }) s m args below meth c H locs 0 0 (MQ below (mQv D cl ci dA dL ad Q) args s 0 0 (mReg ad)) (F0 m 0 ls [])) : W p l e ({ frames := 1, cells := 0, slots := 0, locals := 21 }) s m args below meth c H locs 0 0 (MQ below (mQv D cl ci dA dL ad Q) args s 0 0 (mReg ad)) (F0 m 67 ls [.int z0_9, .int z1_9, .ref (ad 0)]) := by
  obtain ⟨hx, hb, hml, hown, hts, -, -, hlk⟩ := id X
  have S : CallFix p m c _ _ s args lw_all RX7 := ⟨hx, hb, hml, hown, hts⟩
  refine lv_isub hx hb dX7_unwinds_67 ?_
  refine mp_opens X P dX7_unwinds_68 (fun F_10 H locs eF_10 P => ?_)
  replace hw := hw F_10 eF_10
  refine lv_aload_n hx hb dX7_unwinds_71 rfl (lv_at hl 0 rfl) ?_
  refine lv_iload_n hx hb dX7_unwinds_72 rfl (lv_at hl 2 rfl) ?_
  refine cwm_puts X P hw ⟨Nat.le_of_ble_eq_true rfl, Nat.le_of_ble_eq_true rfl⟩ hl.1 (Nat.le_of_ble_eq_true rfl) dX7_unwinds_73 (fun F_12 Ar_13 H locs hw P => ?_)
  refine lv_goto (tgt := 0) hx hb dX7_unwinds_76 (by decide) ?_
  exact hKh0_1 _ _ _ _ _ P (lv_sub hl [0, 1] rfl) hw
def wm_unwinds_J62 (F : tF) (Ar : tA) (y1_8 : Int32) (y2_8 : Int32) (z0_8 : Int32) (Kh0_1 : tF → tA → Prop) (Q : tF → tA → Prop) : Prop :=
  (wm_unwinds_J67 F Ar y1_8 y2_8 1 z0_8 Kh0_1 Q)
set_option maxHeartbeats 4000000 in
theorem kwm_unwinds_J62 {Q : tF → tA → Prop} (X : mCx p s m args meth c cX7_unwinds 3 D cl ci dA dL) (hr : meth.sig.returnType = none) {F : tF} {Ar : tA} (y1_8 : Int32) (y2_8 : Int32) (z0_8 : Int32) (Kh0_1 : tF → tA → Prop) {H : Heap} {locs : List Loc} {ls : Array Slot} (P : mP D cl (mReg ad) ci dA dL ad s.heap F Ar H locs) (hl : lv_has ls 3 [(0, .ref (ad 0)), (1, .int y1_8), (2, .int y2_8)]) (hw : wm_unwinds_J62 F Ar y1_8 y2_8 z0_8 Kh0_1 Q) (hKh0_1 : ∀ (F_ : tF) (Ar_ : tA) (H : Heap) (locs : List Loc) (ls : Array Slot), mP D cl (mReg ad) ci dA dL ad s.heap F_ Ar_ H locs → lv_has ls 3 [(0, .ref (ad 0)), (1, .int y1_8)] → Kh0_1 F_ Ar_ → W p l e ({ frames := 1, cells := 0, slots := 0, locals := 21 }) s m args below meth c H locs 0 0 (MQ below (mQv D cl ci dA dL ad Q) args s 0 0 (mReg ad)) (F0 m 0 ls [])) : W p l e ({ frames := 1, cells := 0, slots := 0, locals := 21 }) s m args below meth c H locs 0 0 (MQ below (mQv D cl ci dA dL ad Q) args s 0 0 (mReg ad)) (F0 m 62 ls [.int z0_8, .ref (ad 0)]) := by
  obtain ⟨hx, hb, hml, hown, hts, -, -, hlk⟩ := id X
  have S : CallFix p m c _ _ s args lw_all RX7 := ⟨hx, hb, hml, hown, hts⟩
  refine lv_iconst (v := 1) hx hb dX7_unwinds_62 (by decide) ?_
  refine lv_goto (tgt := 67) hx hb dX7_unwinds_63 (by decide) ?_
  exact kwm_unwinds_J67 X hr _ _ _ _ _ P (lv_sub hl [0, 1, 2] rfl) hw hKh0_1
def wm_unwinds_L0 (y1_1 : Int32) (Q : tF → tA → Prop) : Nat → tF → tA → Prop
  | 0, _, _ => False
  | f0 + 1, F, Ar =>
    (((F 35) ≤ 0 → Q F Ar) ∧ (¬ (F 35) ≤ 0 → vp_in ((F 35) - 1) 200 ∧ wm_rank (Ar 34 ((F 35) - 1).toNatClampNeg) (fun r_3 => ((r_3 < y1_1 → Q F Ar) ∧ (¬ r_3 < y1_1 → ∀ F_5 : tF, F_5 = upd F 35 ((F 35) - 1) → vp_in (F_5 35) 200 ∧ ∀ x2_6 : Int32, x2_6 = (Ar 34 (F_5 35).toNatClampNeg) → ((x2_6 = 13 → (wm_unwinds_J62 F_5 Ar y1_1 x2_6 (F_5 36) (wm_unwinds_L0 y1_1 Q f0) Q)) ∧ (¬ x2_6 = 13 → ((¬ x2_6 = 19 → (wm_unwinds_J67 F_5 Ar y1_1 x2_6 0 (F_5 36) (wm_unwinds_L0 y1_1 Q f0) Q)) ∧ (x2_6 = 19 → (wm_unwinds_J62 F_5 Ar y1_1 x2_6 (F_5 36) (wm_unwinds_L0 y1_1 Q f0) Q))))))))))
set_option maxHeartbeats 4000000 in
theorem kwm_unwinds_L0 {Q : tF → tA → Prop} (X : mCx p s m args meth c cX7_unwinds 3 D cl ci dA dL) (hr : meth.sig.returnType = none) (y1_1 : Int32) : ∀ (n : Nat) (F : tF) (Ar : tA) (H : Heap) (locs : List Loc) (ls : Array Slot), mP D cl (mReg ad) ci dA dL ad s.heap F Ar H locs → lv_has ls 3 [(0, .ref (ad 0)), (1, .int y1_1)] → wm_unwinds_L0 y1_1 Q n F Ar → W p l e ({ frames := 1, cells := 0, slots := 0, locals := 21 }) s m args below meth c H locs 0 0 (MQ below (mQv D cl ci dA dL ad Q) args s 0 0 (mReg ad)) (F0 m 0 ls []) := by
  obtain ⟨hx, hb, hml, hown, hts, -, -, hlk⟩ := id X
  have S : CallFix p m c _ _ s args lw_all RX7 := ⟨hx, hb, hml, hown, hts⟩
  intro n
  induction n with
  | zero =>
    intro F Ar H locs ls P hl hw
    exact hw.elim
  | succ n ih =>
    intro F Ar H locs ls P hl hw
    have hKh0_1 := ih
    refine lv_aload_n hx hb dX7_unwinds_0 rfl (lv_at hl 0 rfl) ?_
    refine mg_heldMany X P dX7_unwinds_1 ?_
    refine lv_if_le (tgt := 79) hx hb dX7_unwinds_4 (by decide) (fun c_2 => ?_) (fun c_2 => ?_)
    · replace hw := hw.1 c_2
      exact m_vret X P hr hw dX7_unwinds_79
    · replace hw := hw.2 c_2
      refine lv_aload_n hx hb dX7_unwinds_7 rfl (lv_at hl 0 rfl) ?_
      refine mg_held X P dX7_unwinds_8 ?_
      refine lv_aload_n hx hb dX7_unwinds_11 rfl (lv_at hl 0 rfl) ?_
      refine mg_heldMany X P dX7_unwinds_12 ?_
      refine lv_iconst (v := 1) hx hb dX7_unwinds_15 (by decide) ?_
      refine lv_isub hx hb dX7_unwinds_16 ?_
      refine m_iald X P 34 rfl (by decide) hw.1 dX7_unwinds_17 ?_
      replace hw := hw.2
      refine cwm_rank S hw ⟨Nat.le_of_ble_eq_true rfl, Nat.le_of_ble_eq_true rfl⟩ hl.1 (Nat.le_of_ble_eq_true rfl) dX7_unwinds_18 (fun r_3 hw => ?_)
      refine lv_iload_n hx hb dX7_unwinds_21 rfl (lv_at hl 1 rfl) ?_
      refine lv_icmp_lt (tgt := 79) hx hb dX7_unwinds_22 (by decide) (fun c_4 => ?_) (fun c_4 => ?_)
      · replace hw := hw.1 c_4
        exact m_vret X P hr hw dX7_unwinds_79
      · replace hw := hw.2 c_4
        refine lv_aload_n hx hb dX7_unwinds_25 rfl (lv_at hl 0 rfl) ?_
        refine lv_dup hx hb dX7_unwinds_26 rfl ?_
        refine mg_heldMany X P dX7_unwinds_27 ?_
        refine lv_iconst (v := 1) hx hb dX7_unwinds_30 (by decide) ?_
        refine lv_isub hx hb dX7_unwinds_31 ?_
        refine mp_heldMany X P dX7_unwinds_32 (fun F_5 H locs eF_5 P => ?_)
        replace hw := hw F_5 eF_5
        refine lv_aload_n hx hb dX7_unwinds_35 rfl (lv_at hl 0 rfl) ?_
        refine mg_held X P dX7_unwinds_36 ?_
        refine lv_aload_n hx hb dX7_unwinds_39 rfl (lv_at hl 0 rfl) ?_
        refine mg_heldMany X P dX7_unwinds_40 ?_
        refine m_iald X P 34 rfl (by decide) hw.1 dX7_unwinds_43 ?_
        replace hw := hw.2
        refine lv_topi (fun x2_6 ex2_6 => ?_)
        replace hw := hw x2_6 ex2_6
        refine lv_istore_n (lv' := [(2, .int x2_6), (0, .ref (ad 0)), (1, .int y1_1)]) hx hb dX7_unwinds_44 rfl hl (by decide) rfl (fun ls hl => ?_)
        refine lv_aload_n hx hb dX7_unwinds_45 rfl (lv_at hl 1 rfl) ?_
        refine lv_dup hx hb dX7_unwinds_46 rfl ?_
        refine mg_opens X P dX7_unwinds_47 ?_
        refine lv_iload_n hx hb dX7_unwinds_50 rfl (lv_at hl 0 rfl) ?_
        refine lv_bipush (v := 13) hx hb dX7_unwinds_51 (by decide) ?_
        refine lv_icmp_eq (tgt := 62) hx hb dX7_unwinds_53 (by decide) (fun c_7 => ?_) (fun c_7 => ?_)
        · replace hw := hw.1 c_7
          exact kwm_unwinds_J62 X hr _ _ _ _ P (lv_sub hl [1, 2, 0] rfl) hw hKh0_1
        · replace hw := hw.2 c_7
          refine lv_iload_n hx hb dX7_unwinds_56 rfl (lv_at hl 0 rfl) ?_
          refine lv_bipush (v := 19) hx hb dX7_unwinds_57 (by decide) ?_
          refine lv_icmp_ne (tgt := 66) hx hb dX7_unwinds_59 (by decide) (fun c_14 => ?_) (fun c_14 => ?_)
          · replace hw := hw.1 c_14
            refine lv_iconst (v := 0) hx hb dX7_unwinds_66 (by decide) ?_
            exact kwm_unwinds_J67 X hr _ _ _ _ _ P (lv_sub hl [1, 2, 0] rfl) hw hKh0_1
          · replace hw := hw.2 c_14
            exact kwm_unwinds_J62 X hr _ _ _ _ P (lv_sub hl [1, 2, 0] rfl) hw hKh0_1
def wm_unwinds (F : tF) (Ar : tA) (a1 : Int32) (Q : tF → tA → Prop) : Prop :=
  (∃ n0, wm_unwinds_L0 a1 Q n0 F Ar)
set_option maxHeartbeats 4000000 in
theorem twm_unwinds (l : Launch) (D : va_G) (cl : List vw_C) (ci : Nat) (dA dL : ClassId) (ad : Nat → Nat) (F : tF) (Ar : tA) (a1 : Int32) (Q : tF → tA → Prop) (hw : wm_unwinds F Ar a1 Q) : Met l yX7_unwinds (ws_ yX7_unwinds cX7_unwinds 3 none) ({ frames := 1, cells := 0, slots := 0, locals := 21 }) (mPc D cl ci dA dL ad F Ar [.int a1]) (mQv D cl ci dA dL ad Q) 0 0 (mReg ad) := by
  refine m_entry (by decide) rfl (Nat.le_of_ble_eq_true rfl) ?_
  intro p e s m below meth c ls X hr P hl
  obtain ⟨hx, hb, hml, hown, hts, -, -, hlk⟩ := id X
  have S : CallFix p m c _ _ s _ lw_all RX7 := ⟨hx, hb, hml, hown, hts⟩
  have hl : lv_has ls 3 [(0, .ref (ad 0)), (1, .int a1)] := hl
  obtain ⟨n_15, hw⟩ := hw
  refine kwm_unwinds_L0 X hr _    n_15 _ _ _ _ _ P (lv_sub hl [0, 1] rfl) hw
theorem cwm_unwinds {Q : tF → tA → Prop} {a1 : Int32} {Z : State → Prop} {H : Heap} {locs : List Loc} {F : tF} {Ar : tA} (X : mCx p s m args meth c cc nL D cl ci dA dL) (P : mP D cl (mReg ad) ci dA dL ad s.heap F Ar H locs) (hw : wm_unwinds F Ar a1 Q) (hR : 1 + 1 ≤ R.frames ∧ 8 + (3 + 11) + 21 ≤ R.locals) (hls : ls.size = nL) (hst : (rest.map fun v => v.category).sum ≤ 8) (hdg : decode cc pc = .ok (.invokevirtual 186, 3)) (kk : ∀ (F1 : tF) (A1 : tA) (H1 : Heap) (locs1 : List Loc), Q F1 A1 → mP D cl (mReg ad) ci dA dL ad s.heap F1 A1 H1 locs1 → W p l e R s m args below meth c H1 locs1 0 0 Z (F0 m (pc + 3) ls (rest))) : W p l e R s m args below meth c H locs 0 0 Z (F0 m pc ls (.int a1 :: .ref (ad 0) :: rest)) := by
  obtain ⟨hx, hb, hml, hown, hts, hK, hc, hlk⟩ := X
  exact va_callv (m_runV (as := [.int a1]) hx hb hml hown hts hK hc P.1 P.2.1 (twm_unwinds l D cl ci dA dL ad F Ar a1 Q hw) (cwV 1 hts (lw_V q1548 q1550 qs40 q88 q1551) rfl rfl rfl (by decide +kernel) hR) rfl hls hst hdg ⟨Nat.zero_le _, Nat.zero_le _⟩) P.2.2 (fun q _ h => h) (fun q h => h) (fun u t H1 locs1 ht hvm hp hB _ _ hS => kk u.1 u.2 H1 locs1 hp ⟨by rw [← ht]; exact hB, P.2.1.to (fun k h => mM_dom.mpr (mM_dom.mp h)), hS⟩)
-- between
def wm_between_J55 (F : tF) (Ar : tA) (y1_10 : Int32) (Q : Int32 → tF → tA → Prop) : Prop :=
  wm_holds F Ar y1_10 (fun F_12 Ar_13 => Q 1 F_12 Ar_13)
set_option maxHeartbeats 4000000 in
theorem kwm_between_J55 {Q : Int32 → tF → tA → Prop} (X : mCx p s m args meth c cX7_between 2 D cl ci dA dL) (hr : meth.sig.returnType = (some .boolean)) {F : tF} {Ar : tA} (y1_10 : Int32) {H : Heap} {locs : List Loc} {ls : Array Slot} (P : mP D cl (mReg ad) ci dA dL ad s.heap F Ar H locs) (hl : lv_has ls 2 [(0, .ref (ad 0)), (1, .int y1_10)]) (hw : wm_between_J55 F Ar y1_10 Q) : W p l e ({ frames := 2, cells := 0, slots := 0, locals := 43 }) s m args below meth c H locs 0 0 (MQ below (mQi D cl ci dA dL ad Q) args s 0 0 (mReg ad)) (F0 m 55 ls []) := by
  obtain ⟨hx, hb, hml, hown, hts, -, -, hlk⟩ := id X
  have S : CallFix p m c _ _ s args lw_all RX7 := ⟨hx, hb, hml, hown, hts⟩
  refine lv_aload_n hx hb dX7_between_55 rfl (lv_at hl 0 rfl) ?_
  refine lv_iload_n hx hb dX7_between_56 rfl (lv_at hl 1 rfl) ?_
  refine cwm_holds X P hw ⟨Nat.le_of_ble_eq_true rfl, Nat.le_of_ble_eq_true rfl⟩ hl.1 (Nat.le_of_ble_eq_true rfl) dX7_between_57 (fun F_12 Ar_13 H locs hw P => ?_)
  refine lv_iconst (v := 1) hx hb dX7_between_60 (by decide) ?_
  exact m_zret X P hr (Or.inr rfl) hw dX7_between_61
def wm_between_J17 (F : tF) (Ar : tA) (y1_4 : Int32) (z0_4 : Int32) (Q : Int32 → tF → tA → Prop) : Prop :=
  wm_unwinds F Ar z0_4 (fun F_6 Ar_7 => wm_rank y1_4 (fun r_8 => ((¬ r_8 = 4 → (wm_between_J55 F_6 Ar_7 y1_4 Q)) ∧ (r_8 = 4 → (((F_6 35) ≤ 0 → (wm_between_J55 F_6 Ar_7 y1_4 Q)) ∧ (¬ (F_6 35) ≤ 0 → vp_in ((F_6 35) - 1) 200 ∧ wm_rank (Ar_7 34 ((F_6 35) - 1).toNatClampNeg) (fun r_15 => ((¬ r_15 = 4 → (wm_between_J55 F_6 Ar_7 y1_4 Q)) ∧ (r_15 = 4 → Q 0 F_6 Ar_7)))))))))
set_option maxHeartbeats 4000000 in
theorem kwm_between_J17 {Q : Int32 → tF → tA → Prop} (X : mCx p s m args meth c cX7_between 2 D cl ci dA dL) (hr : meth.sig.returnType = (some .boolean)) {F : tF} {Ar : tA} (y1_4 : Int32) (z0_4 : Int32) {H : Heap} {locs : List Loc} {ls : Array Slot} (P : mP D cl (mReg ad) ci dA dL ad s.heap F Ar H locs) (hl : lv_has ls 2 [(0, .ref (ad 0)), (1, .int y1_4)]) (hw : wm_between_J17 F Ar y1_4 z0_4 Q) : W p l e ({ frames := 2, cells := 0, slots := 0, locals := 43 }) s m args below meth c H locs 0 0 (MQ below (mQi D cl ci dA dL ad Q) args s 0 0 (mReg ad)) (F0 m 17 ls [.int z0_4, .ref (ad 0)]) := by
  obtain ⟨hx, hb, hml, hown, hts, -, -, hlk⟩ := id X
  have S : CallFix p m c _ _ s args lw_all RX7 := ⟨hx, hb, hml, hown, hts⟩
  refine cwm_unwinds X P hw ⟨Nat.le_of_ble_eq_true rfl, Nat.le_of_ble_eq_true rfl⟩ hl.1 (Nat.le_of_ble_eq_true rfl) dX7_between_17 (fun F_6 Ar_7 H locs hw P => ?_)
  refine lv_iload_n hx hb dX7_between_20 rfl (lv_at hl 1 rfl) ?_
  refine cwm_rank S hw ⟨Nat.le_of_ble_eq_true rfl, Nat.le_of_ble_eq_true rfl⟩ hl.1 (Nat.le_of_ble_eq_true rfl) dX7_between_21 (fun r_8 hw => ?_)
  refine lv_iconst (v := 4) hx hb dX7_between_24 (by decide) ?_
  refine lv_icmp_ne (tgt := 55) hx hb dX7_between_25 (by decide) (fun c_9 => ?_) (fun c_9 => ?_)
  · replace hw := hw.1 c_9
    exact kwm_between_J55 X hr _ P (lv_sub hl [0, 1] rfl) hw
  · replace hw := hw.2 c_9
    refine lv_aload_n hx hb dX7_between_28 rfl (lv_at hl 0 rfl) ?_
    refine mg_heldMany X P dX7_between_29 ?_
    refine lv_if_le (tgt := 55) hx hb dX7_between_32 (by decide) (fun c_14 => ?_) (fun c_14 => ?_)
    · replace hw := hw.1 c_14
      exact kwm_between_J55 X hr _ P (lv_sub hl [0, 1] rfl) hw
    · replace hw := hw.2 c_14
      refine lv_aload_n hx hb dX7_between_35 rfl (lv_at hl 0 rfl) ?_
      refine mg_held X P dX7_between_36 ?_
      refine lv_aload_n hx hb dX7_between_39 rfl (lv_at hl 0 rfl) ?_
      refine mg_heldMany X P dX7_between_40 ?_
      refine lv_iconst (v := 1) hx hb dX7_between_43 (by decide) ?_
      refine lv_isub hx hb dX7_between_44 ?_
      refine m_iald X P 34 rfl (by decide) hw.1 dX7_between_45 ?_
      replace hw := hw.2
      refine cwm_rank S hw ⟨Nat.le_of_ble_eq_true rfl, Nat.le_of_ble_eq_true rfl⟩ hl.1 (Nat.le_of_ble_eq_true rfl) dX7_between_46 (fun r_15 hw => ?_)
      refine lv_iconst (v := 4) hx hb dX7_between_49 (by decide) ?_
      refine lv_icmp_ne (tgt := 55) hx hb dX7_between_50 (by decide) (fun c_16 => ?_) (fun c_16 => ?_)
      · replace hw := hw.1 c_16
        exact kwm_between_J55 X hr _ P (lv_sub hl [0, 1] rfl) hw
      · replace hw := hw.2 c_16
        refine lv_iconst (v := 0) hx hb dX7_between_53 (by decide) ?_
        exact m_zret X P hr (Or.inl rfl) hw dX7_between_54
def wm_between (F : tF) (Ar : tA) (a1 : Int32) (Q : Int32 → tF → tA → Prop) : Prop :=
  wm_rank a1 (fun r_1 => ((¬ r_1 = 4 → wm_rank a1 (fun r_3 => (wm_between_J17 F Ar a1 r_3 Q))) ∧ (r_1 = 4 → (wm_between_J17 F Ar a1 5 Q))))
set_option maxHeartbeats 4000000 in
theorem twm_between (l : Launch) (D : va_G) (cl : List vw_C) (ci : Nat) (dA dL : ClassId) (ad : Nat → Nat) (F : tF) (Ar : tA) (a1 : Int32) (Q : Int32 → tF → tA → Prop) (hw : wm_between F Ar a1 Q) : Met l yX7_between (ws_ yX7_between cX7_between 2 (some .boolean)) ({ frames := 2, cells := 0, slots := 0, locals := 43 }) (mPc D cl ci dA dL ad F Ar [.int a1]) (mQi D cl ci dA dL ad Q) 0 0 (mReg ad) := by
  refine m_entry (by decide) rfl (Nat.le_of_ble_eq_true rfl) ?_
  intro p e s m below meth c ls X hr P hl
  obtain ⟨hx, hb, hml, hown, hts, -, -, hlk⟩ := id X
  have S : CallFix p m c _ _ s _ lw_all RX7 := ⟨hx, hb, hml, hown, hts⟩
  have hl : lv_has ls 2 [(0, .ref (ad 0)), (1, .int a1)] := hl
  refine lv_aload_n hx hb dX7_between_0 rfl (lv_at hl 0 rfl) ?_
  refine lv_iload_n hx hb dX7_between_1 rfl (lv_at hl 1 rfl) ?_
  refine cwm_rank S hw ⟨Nat.le_of_ble_eq_true rfl, Nat.le_of_ble_eq_true rfl⟩ hl.1 (Nat.le_of_ble_eq_true rfl) dX7_between_2 (fun r_1 hw => ?_)
  refine lv_iconst (v := 4) hx hb dX7_between_5 (by decide) ?_
  refine lv_icmp_ne (tgt := 13) hx hb dX7_between_6 (by decide) (fun c_2 => ?_) (fun c_2 => ?_)
  · replace hw := hw.1 c_2
    refine lv_iload_n hx hb dX7_between_13 rfl (lv_at hl 1 rfl) ?_
    refine cwm_rank S hw ⟨Nat.le_of_ble_eq_true rfl, Nat.le_of_ble_eq_true rfl⟩ hl.1 (Nat.le_of_ble_eq_true rfl) dX7_between_14 (fun r_3 hw => ?_)
    exact kwm_between_J17 X hr _ _ P (lv_sub hl [0, 1] rfl) hw
  · replace hw := hw.2 c_2
    refine lv_iconst (v := 5) hx hb dX7_between_9 (by decide) ?_
    refine lv_goto (tgt := 17) hx hb dX7_between_10 (by decide) ?_
    exact kwm_between_J17 X hr _ _ P (lv_sub hl [0, 1] rfl) hw
theorem cwm_between {Q : Int32 → tF → tA → Prop} {a1 : Int32} {Z : State → Prop} {H : Heap} {locs : List Loc} {F : tF} {Ar : tA} (X : mCx p s m args meth c cc nL D cl ci dA dL) (P : mP D cl (mReg ad) ci dA dL ad s.heap F Ar H locs) (hw : wm_between F Ar a1 Q) (hR : 2 + 1 ≤ R.frames ∧ 8 + (2 + 11) + 43 ≤ R.locals) (hls : ls.size = nL) (hst : (rest.map fun v => v.category).sum ≤ 8) (hdg : decode cc pc = .ok (.invokevirtual 200, 3)) (kk : ∀ (r : Int32) (F1 : tF) (A1 : tA) (H1 : Heap) (locs1 : List Loc), Q r F1 A1 → mP D cl (mReg ad) ci dA dL ad s.heap F1 A1 H1 locs1 → W p l e R s m args below meth c H1 locs1 0 0 Z (F0 m (pc + 3) ls (.int r :: rest))) : W p l e R s m args below meth c H locs 0 0 Z (F0 m pc ls (.int a1 :: .ref (ad 0) :: rest)) := by
  obtain ⟨hx, hb, hml, hown, hts, hK, hc, hlk⟩ := X
  exact va_calli (m_runV (as := [.int a1]) hx hb hml hown hts hK hc P.1 P.2.1 (twm_between l D cl ci dA dL ad F Ar a1 Q hw) (cwV 1 hts (lw_V q1567 q1569 qs44 q88 q1570) rfl rfl rfl (by decide +kernel) hR) rfl hls hst hdg ⟨Nat.zero_le _, Nat.zero_le _⟩) P.2.2 (fun q _ h => h) (fun q h => h) (fun r u t H1 locs1 ht hvm hp hB _ _ hS => kk r u.1 u.2 H1 locs1 hp ⟨by rw [← ht]; exact hB, P.2.1.to (fun k h => mM_dom.mpr (mM_dom.mp h)), hS⟩)
-- letters
def wm_letters_J59 (F : tF) (Ar : tA) (y3_6 : Int32) (z0_6 : Int64) (Kh4_1 : tF → Int64 → Int32 → Prop) (Q : Int64 → tF → tA → Prop) : Prop :=
  ∀ F_7 : tF, F_7 = upd F 29 ((F 29) + 1) → (Kh4_1 F_7 z0_6 (y3_6 + 1))
set_option maxHeartbeats 4000000 in
theorem kwm_letters_J59 {Q : Int64 → tF → tA → Prop} (X : mCx p s m args meth c cX7_letters 4 D cl ci dA dL) (hr : meth.sig.returnType = (some .long)) {F : tF} {Ar : tA} (y3_6 : Int32) (z0_6 : Int64) (Kh4_1 : tF → Int64 → Int32 → Prop) {H : Heap} {locs : List Loc} {ls : Array Slot} (P : mP D cl (mReg ad) ci dA dL ad s.heap F Ar H locs) (hl : lv_has ls 4 [(0, .ref (ad 0)), (3, .int y3_6)]) (hw : wm_letters_J59 F Ar y3_6 z0_6 Kh4_1 Q) (hKh4_1 : ∀ (F_ : tF) (w1_ : Int64) (w3_ : Int32) (H : Heap) (locs : List Loc) (ls : Array Slot), mP D cl (mReg ad) ci dA dL ad s.heap F_ Ar H locs → lv_has ls 4 [(0, .ref (ad 0)), (1, .long w1_), (3, .int w3_)] → Kh4_1 F_ w1_ w3_ → W p l e ({ frames := 1, cells := 0, slots := 0, locals := 22 }) s m args below meth c H locs 0 0 (MQ below (mQl D cl ci dA dL ad Q) args s 0 0 (mReg ad)) (F0 m 4 ls [])) : W p l e ({ frames := 1, cells := 0, slots := 0, locals := 22 }) s m args below meth c H locs 0 0 (MQ below (mQl D cl ci dA dL ad Q) args s 0 0 (mReg ad)) (F0 m 59 ls [.long z0_6]) := by
  obtain ⟨hx, hb, hml, hown, hts, -, -, hlk⟩ := id X
  have S : CallFix p m c _ _ s args lw_all RX7 := ⟨hx, hb, hml, hown, hts⟩
  refine lv_lstore_n (lv' := [(1, .long z0_6), (0, .ref (ad 0)), (3, .int y3_6)]) hx hb dX7_letters_59 rfl hl (by decide) rfl (fun ls hl => ?_)
  refine lv_iinc (v := (y3_6 + 1)) (lv' := [(3, .int (y3_6 + 1)), (1, .long z0_6), (0, .ref (ad 0))]) hx hb dX7_letters_60 hl (k := 2) rfl rfl (by decide) rfl (fun ls hl => ?_)
  refine lv_aload_n hx hb dX7_letters_63 rfl (lv_at hl 2 rfl) ?_
  refine lv_dup hx hb dX7_letters_64 rfl ?_
  refine mg_at X P dX7_letters_65 ?_
  refine lv_iconst (v := 1) hx hb dX7_letters_68 (by decide) ?_
  refine lv_iadd hx hb dX7_letters_69 ?_
  refine mp_at X P dX7_letters_70 (fun F_7 H locs eF_7 P => ?_)
  replace hw := hw F_7 eF_7
  refine lv_goto (tgt := 4) hx hb dX7_letters_73 (by decide) ?_
  exact hKh4_1 _ _ _ _ _ _ P (lv_sub hl [2, 1, 0] rfl) hw
def wm_letters_L4 (Ar : tA) (Kx76_1 : tF → Int64 → Int32 → Prop) (Q : Int64 → tF → tA → Prop) : Nat → tF → Int64 → Int32 → Prop
  | 0, _, _, _ => False
  | f4 + 1, F, y1_1, y3_1 =>
    (((F 13) ≤ (F 29) → (Kx76_1 F y1_1 y3_1)) ∧ (¬ (F 13) ≤ (F 29) → vp_in (F 29) 160 ∧ wm_in (Ar 12 (F 29).toNatClampNeg) 97 122 (fun r_3 => ((r_3 = 0 → (Kx76_1 F y1_1 y3_1)) ∧ (¬ r_3 = 0 → (((8 : Int32) ≤ y3_1 → (wm_letters_J59 F Ar y3_1 y1_1 (wm_letters_L4 Ar Kx76_1 Q f4) Q)) ∧ (¬ (8 : Int32) ≤ y3_1 → vp_in (F 29) 160 ∧ (wm_letters_J59 F Ar y3_1 ((y1_1 <<< ((8 : Int32).toInt64 &&& 63)) ||| ((Ar 12 (F 29).toNatClampNeg).toInt64)) (wm_letters_L4 Ar Kx76_1 Q f4) Q))))))))
set_option maxHeartbeats 4000000 in
theorem kwm_letters_L4 {Q : Int64 → tF → tA → Prop} (X : mCx p s m args meth c cX7_letters 4 D cl ci dA dL) (hr : meth.sig.returnType = (some .long)) (Ar : tA) (Kx76_1 : tF → Int64 → Int32 → Prop) (hKx76_1 : ∀ (F_ : tF) (w1_ : Int64) (w3_ : Int32) (H : Heap) (locs : List Loc) (ls : Array Slot), mP D cl (mReg ad) ci dA dL ad s.heap F_ Ar H locs → lv_has ls 4 [(0, .ref (ad 0)), (1, .long w1_), (3, .int w3_)] → Kx76_1 F_ w1_ w3_ → W p l e ({ frames := 1, cells := 0, slots := 0, locals := 22 }) s m args below meth c H locs 0 0 (MQ below (mQl D cl ci dA dL ad Q) args s 0 0 (mReg ad)) (F0 m 76 ls [])) : ∀ (n : Nat) (F : tF) (y1_1 : Int64) (y3_1 : Int32) (H : Heap) (locs : List Loc) (ls : Array Slot), mP D cl (mReg ad) ci dA dL ad s.heap F Ar H locs → lv_has ls 4 [(0, .ref (ad 0)), (1, .long y1_1), (3, .int y3_1)] → wm_letters_L4 Ar Kx76_1 Q n F y1_1 y3_1 → W p l e ({ frames := 1, cells := 0, slots := 0, locals := 22 }) s m args below meth c H locs 0 0 (MQ below (mQl D cl ci dA dL ad Q) args s 0 0 (mReg ad)) (F0 m 4 ls []) := by
  obtain ⟨hx, hb, hml, hown, hts, -, -, hlk⟩ := id X
  have S : CallFix p m c _ _ s args lw_all RX7 := ⟨hx, hb, hml, hown, hts⟩
  intro n
  induction n with
  | zero =>
    intro F y1_1 y3_1 H locs ls P hl hw
    exact hw.elim
  | succ n ih =>
    intro F y1_1 y3_1 H locs ls P hl hw
    have hKh4_1 := ih
    refine lv_aload_n hx hb dX7_letters_4 rfl (lv_at hl 0 rfl) ?_
    refine mg_at X P dX7_letters_5 ?_
    refine lv_aload_n hx hb dX7_letters_8 rfl (lv_at hl 0 rfl) ?_
    refine mg_taped X P dX7_letters_9 ?_
    refine lv_icmp_ge (tgt := 76) hx hb dX7_letters_12 (by decide) (fun c_2 => ?_) (fun c_2 => ?_)
    · replace hw := hw.1 c_2
      exact hKx76_1 _ _ _ _ _ _ P (lv_sub hl [0, 1, 2] rfl) hw
    · replace hw := hw.2 c_2
      refine lv_aload_n hx hb dX7_letters_15 rfl (lv_at hl 0 rfl) ?_
      refine mg_tape X P dX7_letters_16 ?_
      refine lv_aload_n hx hb dX7_letters_19 rfl (lv_at hl 0 rfl) ?_
      refine mg_at X P dX7_letters_20 ?_
      refine m_iald X P 12 rfl (by decide) hw.1 dX7_letters_23 ?_
      replace hw := hw.2
      refine lv_bipush (v := 97) hx hb dX7_letters_24 (by decide) ?_
      refine lv_bipush (v := 122) hx hb dX7_letters_26 (by decide) ?_
      refine cwm_in S hw ⟨Nat.le_of_ble_eq_true rfl, Nat.le_of_ble_eq_true rfl⟩ hl.1 (Nat.le_of_ble_eq_true rfl) dX7_letters_28 (fun r_3 hw => ?_)
      refine lv_if_eq (tgt := 76) hx hb dX7_letters_31 (by decide) (fun c_4 => ?_) (fun c_4 => ?_)
      · replace hw := hw.1 c_4
        exact hKx76_1 _ _ _ _ _ _ P (lv_sub hl [0, 1, 2] rfl) hw
      · replace hw := hw.2 c_4
        refine lv_iload_n hx hb dX7_letters_34 rfl (lv_at hl 2 rfl) ?_
        refine lv_bipush (v := 8) hx hb dX7_letters_35 (by decide) ?_
        refine lv_icmp_ge (tgt := 58) hx hb dX7_letters_37 (by decide) (fun c_5 => ?_) (fun c_5 => ?_)
        · replace hw := hw.1 c_5
          refine lv_lload_n hx hb dX7_letters_58 rfl (lv_at hl 1 rfl) ?_
          exact kwm_letters_J59 X hr _ _ _ P (lv_sub hl [0, 2] rfl) hw hKh4_1
        · replace hw := hw.2 c_5
          refine lv_lload_n hx hb dX7_letters_40 rfl (lv_at hl 1 rfl) ?_
          refine lv_bipush (v := 8) hx hb dX7_letters_41 (by decide) ?_
          refine lv_lshl hx hb dX7_letters_43 rfl ?_
          refine lv_aload_n hx hb dX7_letters_44 rfl (lv_at hl 0 rfl) ?_
          refine mg_tape X P dX7_letters_45 ?_
          refine lv_aload_n hx hb dX7_letters_48 rfl (lv_at hl 0 rfl) ?_
          refine mg_at X P dX7_letters_49 ?_
          refine m_iald X P 12 rfl (by decide) hw.1 dX7_letters_52 ?_
          replace hw := hw.2
          refine lv_i2l hx hb dX7_letters_53 rfl ?_
          refine lv_lor hx hb dX7_letters_54 ?_
          refine lv_goto (tgt := 59) hx hb dX7_letters_55 (by decide) ?_
          exact kwm_letters_J59 X hr _ _ _ P (lv_sub hl [0, 2] rfl) hw hKh4_1
def wm_letters (F : tF) (Ar : tA) (Q : Int64 → tF → tA → Prop) : Prop :=
  (∃ n4, wm_letters_L4 Ar (fun (F_8 : tF) (x1_9 : Int64) (x3_10 : Int32) => ((x3_10 ≤ 6 → Q x1_9 F_8 Ar) ∧ (¬ x3_10 ≤ 6 → Q 0 F_8 Ar))) Q n4 F 0 0)
set_option maxHeartbeats 4000000 in
theorem twm_letters (l : Launch) (D : va_G) (cl : List vw_C) (ci : Nat) (dA dL : ClassId) (ad : Nat → Nat) (F : tF) (Ar : tA) (Q : Int64 → tF → tA → Prop) (hw : wm_letters F Ar  Q) : Met l yX7_letters (ws_ yX7_letters cX7_letters 4 (some .long)) ({ frames := 1, cells := 0, slots := 0, locals := 22 }) (mPc D cl ci dA dL ad F Ar []) (mQl D cl ci dA dL ad Q) 0 0 (mReg ad) := by
  refine m_entry (by decide) rfl (Nat.le_of_ble_eq_true rfl) ?_
  intro p e s m below meth c ls X hr P hl
  obtain ⟨hx, hb, hml, hown, hts, -, -, hlk⟩ := id X
  have S : CallFix p m c _ _ s _ lw_all RX7 := ⟨hx, hb, hml, hown, hts⟩
  have hl : lv_has ls 4 [(0, .ref (ad 0))] := hl
  refine lv_lconst (v := 0) hx hb dX7_letters_0 (by decide) ?_
  refine lv_lstore_n (lv' := [(1, .long 0), (0, .ref (ad 0))]) hx hb dX7_letters_1 rfl hl (by decide) rfl (fun ls hl => ?_)
  refine lv_iconst (v := 0) hx hb dX7_letters_2 (by decide) ?_
  refine lv_istore_n (lv' := [(3, .int 0), (1, .long 0), (0, .ref (ad 0))]) hx hb dX7_letters_3 rfl hl (by decide) rfl (fun ls hl => ?_)
  obtain ⟨n_12, hw⟩ := hw
  refine kwm_letters_L4 X hr _ _   ?_ n_12 _ _ _ _ _ _ P (lv_sub hl [2, 1, 0] rfl) hw
  · intro F_8 x1_9 x3_10 H locs ls P hl hw
    refine lv_iload_n hx hb dX7_letters_76 rfl (lv_at hl 2 rfl) ?_
    refine lv_bipush (v := 6) hx hb dX7_letters_77 (by decide) ?_
    refine lv_icmp_le (tgt := 86) hx hb dX7_letters_79 (by decide) (fun c_11 => ?_) (fun c_11 => ?_)
    · replace hw := hw.1 c_11
      refine lv_lload_n hx hb dX7_letters_86 rfl (lv_at hl 1 rfl) ?_
      exact m_lret X P hr hw dX7_letters_87
    · replace hw := hw.2 c_11
      refine lv_lconst (v := 0) hx hb dX7_letters_82 (by decide) ?_
      refine lv_goto (tgt := 87) hx hb dX7_letters_83 (by decide) ?_
      exact m_lret X P hr hw dX7_letters_87
theorem cwm_letters {Q : Int64 → tF → tA → Prop} {Z : State → Prop} {H : Heap} {locs : List Loc} {F : tF} {Ar : tA} (X : mCx p s m args meth c cc nL D cl ci dA dL) (P : mP D cl (mReg ad) ci dA dL ad s.heap F Ar H locs) (hw : wm_letters F Ar  Q) (hR : 1 + 1 ≤ R.frames ∧ 8 + (4 + 11) + 22 ≤ R.locals) (hls : ls.size = nL) (hst : (rest.map fun v => v.category).sum ≤ 8) (hdg : decode cc pc = .ok (.invokevirtual 162, 3)) (kk : ∀ (r : Int64) (F1 : tF) (A1 : tA) (H1 : Heap) (locs1 : List Loc), Q r F1 A1 → mP D cl (mReg ad) ci dA dL ad s.heap F1 A1 H1 locs1 → W p l e R s m args below meth c H1 locs1 0 0 Z (F0 m (pc + 3) ls (.long r :: rest))) : W p l e R s m args below meth c H locs 0 0 Z (F0 m pc ls (.ref (ad 0) :: rest)) := by
  obtain ⟨hx, hb, hml, hown, hts, hK, hc, hlk⟩ := X
  exact va_calll (m_runV (as := []) hx hb hml hown hts hK hc P.1 P.2.1 (twm_letters l D cl ci dA dL ad F Ar  Q hw) (cwV 0 hts (lw_V q1535 q1537 qs37 q88 q1538) rfl rfl rfl (by decide +kernel) hR) rfl hls hst hdg ⟨Nat.zero_le _, Nat.zero_le _⟩) P.2.2 (fun q _ h => h) (fun q h => h) (fun r u t H1 locs1 ht hvm hp hB _ _ hS => kk r u.1 u.2 H1 locs1 hp ⟨by rw [← ht]; exact hB, P.2.1.to (fun k h => mM_dom.mpr (mM_dom.mp h)), hS⟩)
-- next
def wm_next_J39 (F : tF) (Ar : tA) (Kh0_1 : tF → Prop) (Q : tF → tA → Prop) : Prop :=
  ∀ F_5 : tF, F_5 = upd F 29 ((F 29) + 1) → (Kh0_1 F_5)
set_option maxHeartbeats 4000000 in
theorem kwm_next_J39 {Q : tF → tA → Prop} (X : mCx p s m args meth c cX7_next 5 D cl ci dA dL) (hr : meth.sig.returnType = none) {F : tF} {Ar : tA} (Kh0_1 : tF → Prop) {H : Heap} {locs : List Loc} {ls : Array Slot} (P : mP D cl (mReg ad) ci dA dL ad s.heap F Ar H locs) (hl : lv_has ls 5 [(0, .ref (ad 0))]) (hw : wm_next_J39 F Ar Kh0_1 Q) (hKh0_1 : ∀ (F_ : tF) (H : Heap) (locs : List Loc) (ls : Array Slot), mP D cl (mReg ad) ci dA dL ad s.heap F_ Ar H locs → lv_has ls 5 [(0, .ref (ad 0))] → Kh0_1 F_ → W p l e ({ frames := 2, cells := 0, slots := 0, locals := 45 }) s m args below meth c H locs 0 0 (MQ below (mQv D cl ci dA dL ad Q) args s 0 0 (mReg ad)) (F0 m 0 ls [])) : W p l e ({ frames := 2, cells := 0, slots := 0, locals := 45 }) s m args below meth c H locs 0 0 (MQ below (mQv D cl ci dA dL ad Q) args s 0 0 (mReg ad)) (F0 m 39 ls []) := by
  obtain ⟨hx, hb, hml, hown, hts, -, -, hlk⟩ := id X
  have S : CallFix p m c _ _ s args lw_all RX7 := ⟨hx, hb, hml, hown, hts⟩
  refine lv_aload_n hx hb dX7_next_39 rfl (lv_at hl 0 rfl) ?_
  refine lv_dup hx hb dX7_next_40 rfl ?_
  refine mg_at X P dX7_next_41 ?_
  refine lv_iconst (v := 1) hx hb dX7_next_44 (by decide) ?_
  refine lv_iadd hx hb dX7_next_45 ?_
  refine mp_at X P dX7_next_46 (fun F_5 H locs eF_5 P => ?_)
  replace hw := hw F_5 eF_5
  refine lv_goto (tgt := 0) hx hb dX7_next_49 (by decide) ?_
  exact hKh0_1 _ _ _ _ P (lv_sub hl [0] rfl) hw
def wm_next_L0 (Ar : tA) (Kx52_1 : tF → Prop) (Q : tF → tA → Prop) : Nat → tF → Prop
  | 0, _ => False
  | f0 + 1, F =>
    (((F 13) ≤ (F 29) → (Kx52_1 F)) ∧ (¬ (F 13) ≤ (F 29) → vp_in (F 29) 160 ∧ (((Ar 12 (F 29).toNatClampNeg) = 32 → (wm_next_J39 F Ar (wm_next_L0 Ar Kx52_1 Q f0) Q)) ∧ (¬ (Ar 12 (F 29).toNatClampNeg) = 32 → vp_in (F 29) 160 ∧ ((¬ (Ar 12 (F 29).toNatClampNeg) = 10 → (Kx52_1 F)) ∧ ((Ar 12 (F 29).toNatClampNeg) = 10 → (wm_next_J39 F Ar (wm_next_L0 Ar Kx52_1 Q f0) Q)))))))
set_option maxHeartbeats 4000000 in
theorem kwm_next_L0 {Q : tF → tA → Prop} (X : mCx p s m args meth c cX7_next 5 D cl ci dA dL) (hr : meth.sig.returnType = none) (Ar : tA) (Kx52_1 : tF → Prop) (hKx52_1 : ∀ (F_ : tF) (H : Heap) (locs : List Loc) (ls : Array Slot), mP D cl (mReg ad) ci dA dL ad s.heap F_ Ar H locs → lv_has ls 5 [(0, .ref (ad 0))] → Kx52_1 F_ → W p l e ({ frames := 2, cells := 0, slots := 0, locals := 45 }) s m args below meth c H locs 0 0 (MQ below (mQv D cl ci dA dL ad Q) args s 0 0 (mReg ad)) (F0 m 52 ls [])) : ∀ (n : Nat) (F : tF) (H : Heap) (locs : List Loc) (ls : Array Slot), mP D cl (mReg ad) ci dA dL ad s.heap F Ar H locs → lv_has ls 5 [(0, .ref (ad 0))] → wm_next_L0 Ar Kx52_1 Q n F → W p l e ({ frames := 2, cells := 0, slots := 0, locals := 45 }) s m args below meth c H locs 0 0 (MQ below (mQv D cl ci dA dL ad Q) args s 0 0 (mReg ad)) (F0 m 0 ls []) := by
  obtain ⟨hx, hb, hml, hown, hts, -, -, hlk⟩ := id X
  have S : CallFix p m c _ _ s args lw_all RX7 := ⟨hx, hb, hml, hown, hts⟩
  intro n
  induction n with
  | zero =>
    intro F H locs ls P hl hw
    exact hw.elim
  | succ n ih =>
    intro F H locs ls P hl hw
    have hKh0_1 := ih
    refine lv_aload_n hx hb dX7_next_0 rfl (lv_at hl 0 rfl) ?_
    refine mg_at X P dX7_next_1 ?_
    refine lv_aload_n hx hb dX7_next_4 rfl (lv_at hl 0 rfl) ?_
    refine mg_taped X P dX7_next_5 ?_
    refine lv_icmp_ge (tgt := 52) hx hb dX7_next_8 (by decide) (fun c_2 => ?_) (fun c_2 => ?_)
    · replace hw := hw.1 c_2
      exact hKx52_1 _ _ _ _ P (lv_sub hl [0] rfl) hw
    · replace hw := hw.2 c_2
      refine lv_aload_n hx hb dX7_next_11 rfl (lv_at hl 0 rfl) ?_
      refine mg_tape X P dX7_next_12 ?_
      refine lv_aload_n hx hb dX7_next_15 rfl (lv_at hl 0 rfl) ?_
      refine mg_at X P dX7_next_16 ?_
      refine m_iald X P 12 rfl (by decide) hw.1 dX7_next_19 ?_
      replace hw := hw.2
      refine lv_bipush (v := 32) hx hb dX7_next_20 (by decide) ?_
      refine lv_icmp_eq (tgt := 39) hx hb dX7_next_22 (by decide) (fun c_3 => ?_) (fun c_3 => ?_)
      · replace hw := hw.1 c_3
        exact kwm_next_J39 X hr _ P (lv_sub hl [0] rfl) hw hKh0_1
      · replace hw := hw.2 c_3
        refine lv_aload_n hx hb dX7_next_25 rfl (lv_at hl 0 rfl) ?_
        refine mg_tape X P dX7_next_26 ?_
        refine lv_aload_n hx hb dX7_next_29 rfl (lv_at hl 0 rfl) ?_
        refine mg_at X P dX7_next_30 ?_
        refine m_iald X P 12 rfl (by decide) hw.1 dX7_next_33 ?_
        replace hw := hw.2
        refine lv_bipush (v := 10) hx hb dX7_next_34 (by decide) ?_
        refine lv_icmp_ne (tgt := 52) hx hb dX7_next_36 (by decide) (fun c_6 => ?_) (fun c_6 => ?_)
        · replace hw := hw.1 c_6
          exact hKx52_1 _ _ _ _ P (lv_sub hl [0] rfl) hw
        · replace hw := hw.2 c_6
          exact kwm_next_J39 X hr _ P (lv_sub hl [0] rfl) hw hKh0_1
def wm_next_J374 (F : tF) (Ar : tA) (z0_21 : Int32) (Q : tF → tA → Prop) : Prop :=
  ∀ F_22 : tF, F_22 = upd F 31 z0_21 → ∀ F_23 : tF, F_23 = upd F_22 29 ((F_22 29) + 1) → Q F_23 Ar
set_option maxHeartbeats 4000000 in
theorem kwm_next_J374 {Q : tF → tA → Prop} (X : mCx p s m args meth c cX7_next 5 D cl ci dA dL) (hr : meth.sig.returnType = none) {F : tF} {Ar : tA} (z0_21 : Int32) {H : Heap} {locs : List Loc} {ls : Array Slot} (P : mP D cl (mReg ad) ci dA dL ad s.heap F Ar H locs) (hl : lv_has ls 5 [(0, .ref (ad 0))]) (hw : wm_next_J374 F Ar z0_21 Q) : W p l e ({ frames := 2, cells := 0, slots := 0, locals := 45 }) s m args below meth c H locs 0 0 (MQ below (mQv D cl ci dA dL ad Q) args s 0 0 (mReg ad)) (F0 m 374 ls [.int z0_21, .ref (ad 0)]) := by
  obtain ⟨hx, hb, hml, hown, hts, -, -, hlk⟩ := id X
  have S : CallFix p m c _ _ s args lw_all RX7 := ⟨hx, hb, hml, hown, hts⟩
  refine mp_token X P dX7_next_374 (fun F_22 H locs eF_22 P => ?_)
  replace hw := hw F_22 eF_22
  refine lv_aload_n hx hb dX7_next_377 rfl (lv_at hl 0 rfl) ?_
  refine lv_dup hx hb dX7_next_378 rfl ?_
  refine mg_at X P dX7_next_379 ?_
  refine lv_iconst (v := 1) hx hb dX7_next_382 (by decide) ?_
  refine lv_iadd hx hb dX7_next_383 ?_
  refine mp_at X P dX7_next_384 (fun F_23 H locs eF_23 P => ?_)
  replace hw := hw F_23 eF_23
  exact m_vret X P hr hw dX7_next_387
def wm_next_J363 (F : tF) (Ar : tA) (y1_19 : Int32) (z0_19 : Int32) (Q : tF → tA → Prop) : Prop :=
  ((z0_19 = 0 → (wm_next_J374 F Ar (-1) Q)) ∧ (¬ z0_19 = 0 → (wm_next_J374 F Ar y1_19 Q)))
set_option maxHeartbeats 4000000 in
theorem kwm_next_J363 {Q : tF → tA → Prop} (X : mCx p s m args meth c cX7_next 5 D cl ci dA dL) (hr : meth.sig.returnType = none) {F : tF} {Ar : tA} (y1_19 : Int32) (z0_19 : Int32) {H : Heap} {locs : List Loc} {ls : Array Slot} (P : mP D cl (mReg ad) ci dA dL ad s.heap F Ar H locs) (hl : lv_has ls 5 [(0, .ref (ad 0)), (1, .int y1_19)]) (hw : wm_next_J363 F Ar y1_19 z0_19 Q) : W p l e ({ frames := 2, cells := 0, slots := 0, locals := 45 }) s m args below meth c H locs 0 0 (MQ below (mQv D cl ci dA dL ad Q) args s 0 0 (mReg ad)) (F0 m 363 ls [.int z0_19]) := by
  obtain ⟨hx, hb, hml, hown, hts, -, -, hlk⟩ := id X
  have S : CallFix p m c _ _ s args lw_all RX7 := ⟨hx, hb, hml, hown, hts⟩
  refine lv_istore_n (lv' := [(2, .int z0_19), (0, .ref (ad 0)), (1, .int y1_19)]) hx hb dX7_next_363 rfl hl (by decide) rfl (fun ls hl => ?_)
  refine lv_aload_n hx hb dX7_next_364 rfl (lv_at hl 1 rfl) ?_
  refine lv_iload_n hx hb dX7_next_365 rfl (lv_at hl 0 rfl) ?_
  refine lv_if_eq (tgt := 373) hx hb dX7_next_366 (by decide) (fun c_20 => ?_) (fun c_20 => ?_)
  · replace hw := hw.1 c_20
    refine lv_iconst (v := (-1)) hx hb dX7_next_373 (by decide) ?_
    exact kwm_next_J374 X hr _ P (lv_sub hl [1] rfl) hw
  · replace hw := hw.2 c_20
    refine lv_iload_n hx hb dX7_next_369 rfl (lv_at hl 2 rfl) ?_
    refine lv_goto (tgt := 374) hx hb dX7_next_370 (by decide) ?_
    exact kwm_next_J374 X hr _ P (lv_sub hl [1] rfl) hw
def wm_next_J358 (F : tF) (Ar : tA) (y1_18 : Int32) (Q : tF → tA → Prop) : Prop :=
  (wm_next_J363 F Ar y1_18 1 Q)
set_option maxHeartbeats 4000000 in
theorem kwm_next_J358 {Q : tF → tA → Prop} (X : mCx p s m args meth c cX7_next 5 D cl ci dA dL) (hr : meth.sig.returnType = none) {F : tF} {Ar : tA} (y1_18 : Int32) {H : Heap} {locs : List Loc} {ls : Array Slot} (P : mP D cl (mReg ad) ci dA dL ad s.heap F Ar H locs) (hl : lv_has ls 5 [(0, .ref (ad 0)), (1, .int y1_18)]) (hw : wm_next_J358 F Ar y1_18 Q) : W p l e ({ frames := 2, cells := 0, slots := 0, locals := 45 }) s m args below meth c H locs 0 0 (MQ below (mQv D cl ci dA dL ad Q) args s 0 0 (mReg ad)) (F0 m 358 ls []) := by
  obtain ⟨hx, hb, hml, hown, hts, -, -, hlk⟩ := id X
  have S : CallFix p m c _ _ s args lw_all RX7 := ⟨hx, hb, hml, hown, hts⟩
  refine lv_iconst (v := 1) hx hb dX7_next_358 (by decide) ?_
  refine lv_goto (tgt := 363) hx hb dX7_next_359 (by decide) ?_
  exact kwm_next_J363 X hr _ _ P (lv_sub hl [0, 1] rfl) hw
def wm_next_J274 (F : tF) (Ar : tA) (y2_36 : Int32) (z0_36 : Int32) (Kh214_31 : tF → Int32 → Prop) (Q : tF → tA → Prop) : Prop :=
  ∀ F_37 : tF, F_37 = upd F 32 z0_36 → ∀ F_38 : tF, F_38 = upd F_37 29 ((F_37 29) + 1) → (Kh214_31 F_38 (y2_36 + 1))
set_option maxHeartbeats 4000000 in
theorem kwm_next_J274 {Q : tF → tA → Prop} (X : mCx p s m args meth c cX7_next 5 D cl ci dA dL) (hr : meth.sig.returnType = none) {F : tF} {Ar : tA} (y2_36 : Int32) (z0_36 : Int32) (Kh214_31 : tF → Int32 → Prop) {H : Heap} {locs : List Loc} {ls : Array Slot} (P : mP D cl (mReg ad) ci dA dL ad s.heap F Ar H locs) (hl : lv_has ls 5 [(0, .ref (ad 0)), (2, .int y2_36)]) (hw : wm_next_J274 F Ar y2_36 z0_36 Kh214_31 Q) (hKh214_31 : ∀ (F_ : tF) (w2_ : Int32) (H : Heap) (locs : List Loc) (ls : Array Slot), mP D cl (mReg ad) ci dA dL ad s.heap F_ Ar H locs → lv_has ls 5 [(0, .ref (ad 0)), (2, .int w2_)] → Kh214_31 F_ w2_ → W p l e ({ frames := 2, cells := 0, slots := 0, locals := 45 }) s m args below meth c H locs 0 0 (MQ below (mQv D cl ci dA dL ad Q) args s 0 0 (mReg ad)) (F0 m 214 ls [])) : W p l e ({ frames := 2, cells := 0, slots := 0, locals := 45 }) s m args below meth c H locs 0 0 (MQ below (mQv D cl ci dA dL ad Q) args s 0 0 (mReg ad)) (F0 m 274 ls [.int z0_36, .ref (ad 0)]) := by
  obtain ⟨hx, hb, hml, hown, hts, -, -, hlk⟩ := id X
  have S : CallFix p m c _ _ s args lw_all RX7 := ⟨hx, hb, hml, hown, hts⟩
  refine mp_value X P dX7_next_274 (fun F_37 H locs eF_37 P => ?_)
  replace hw := hw F_37 eF_37
  refine lv_iinc (v := (y2_36 + 1)) (lv' := [(2, .int (y2_36 + 1)), (0, .ref (ad 0))]) hx hb dX7_next_277 hl (k := 1) rfl rfl (by decide) rfl (fun ls hl => ?_)
  refine lv_aload_n hx hb dX7_next_280 rfl (lv_at hl 1 rfl) ?_
  refine lv_dup hx hb dX7_next_281 rfl ?_
  refine mg_at X P dX7_next_282 ?_
  refine lv_iconst (v := 1) hx hb dX7_next_285 (by decide) ?_
  refine lv_iadd hx hb dX7_next_286 ?_
  refine mp_at X P dX7_next_287 (fun F_38 H locs eF_38 P => ?_)
  replace hw := hw F_38 eF_38
  refine lv_goto (tgt := 214) hx hb dX7_next_290 (by decide) ?_
  exact hKh214_31 _ _ _ _ _ P (lv_sub hl [1, 0] rfl) hw
def wm_next_L214 (Ar : tA) (Kx293_31 : tF → Int32 → Prop) (Q : tF → tA → Prop) : Nat → tF → Int32 → Prop
  | 0, _, _ => False
  | f214 + 1, F, y2_31 =>
    (((F 13) ≤ (F 29) → (Kx293_31 F y2_31)) ∧ (¬ (F 13) ≤ (F 29) → vp_in (F 29) 160 ∧ wm_in (Ar 12 (F 29).toNatClampNeg) 48 57 (fun r_33 => ((r_33 = 0 → (Kx293_31 F y2_31)) ∧ (¬ r_33 = 0 → (((4 : Int32) ≤ y2_31 → (wm_next_J274 F Ar y2_31 0 (wm_next_L214 Ar Kx293_31 Q f214) Q)) ∧ (¬ (4 : Int32) ≤ y2_31 → vp_in (F 29) 160 ∧ (wm_next_J274 F Ar y2_31 (((10 * (F 32)) + (Ar 12 (F 29).toNatClampNeg)) - 48) (wm_next_L214 Ar Kx293_31 Q f214) Q))))))))
set_option maxHeartbeats 4000000 in
theorem kwm_next_L214 {Q : tF → tA → Prop} (X : mCx p s m args meth c cX7_next 5 D cl ci dA dL) (hr : meth.sig.returnType = none) (Ar : tA) (Kx293_31 : tF → Int32 → Prop) (hKx293_31 : ∀ (F_ : tF) (w2_ : Int32) (H : Heap) (locs : List Loc) (ls : Array Slot), mP D cl (mReg ad) ci dA dL ad s.heap F_ Ar H locs → lv_has ls 5 [(0, .ref (ad 0)), (2, .int w2_)] → Kx293_31 F_ w2_ → W p l e ({ frames := 2, cells := 0, slots := 0, locals := 45 }) s m args below meth c H locs 0 0 (MQ below (mQv D cl ci dA dL ad Q) args s 0 0 (mReg ad)) (F0 m 293 ls [])) : ∀ (n : Nat) (F : tF) (y2_31 : Int32) (H : Heap) (locs : List Loc) (ls : Array Slot), mP D cl (mReg ad) ci dA dL ad s.heap F Ar H locs → lv_has ls 5 [(0, .ref (ad 0)), (2, .int y2_31)] → wm_next_L214 Ar Kx293_31 Q n F y2_31 → W p l e ({ frames := 2, cells := 0, slots := 0, locals := 45 }) s m args below meth c H locs 0 0 (MQ below (mQv D cl ci dA dL ad Q) args s 0 0 (mReg ad)) (F0 m 214 ls []) := by
  obtain ⟨hx, hb, hml, hown, hts, -, -, hlk⟩ := id X
  have S : CallFix p m c _ _ s args lw_all RX7 := ⟨hx, hb, hml, hown, hts⟩
  intro n
  induction n with
  | zero =>
    intro F y2_31 H locs ls P hl hw
    exact hw.elim
  | succ n ih =>
    intro F y2_31 H locs ls P hl hw
    have hKh214_31 := ih
    refine lv_aload_n hx hb dX7_next_214 rfl (lv_at hl 0 rfl) ?_
    refine mg_at X P dX7_next_215 ?_
    refine lv_aload_n hx hb dX7_next_218 rfl (lv_at hl 0 rfl) ?_
    refine mg_taped X P dX7_next_219 ?_
    refine lv_icmp_ge (tgt := 293) hx hb dX7_next_222 (by decide) (fun c_32 => ?_) (fun c_32 => ?_)
    · replace hw := hw.1 c_32
      exact hKx293_31 _ _ _ _ _ P (lv_sub hl [0, 1] rfl) hw
    · replace hw := hw.2 c_32
      refine lv_aload_n hx hb dX7_next_225 rfl (lv_at hl 0 rfl) ?_
      refine mg_tape X P dX7_next_226 ?_
      refine lv_aload_n hx hb dX7_next_229 rfl (lv_at hl 0 rfl) ?_
      refine mg_at X P dX7_next_230 ?_
      refine m_iald X P 12 rfl (by decide) hw.1 dX7_next_233 ?_
      replace hw := hw.2
      refine lv_bipush (v := 48) hx hb dX7_next_234 (by decide) ?_
      refine lv_bipush (v := 57) hx hb dX7_next_236 (by decide) ?_
      refine cwm_in S hw ⟨Nat.le_of_ble_eq_true rfl, Nat.le_of_ble_eq_true rfl⟩ hl.1 (Nat.le_of_ble_eq_true rfl) dX7_next_238 (fun r_33 hw => ?_)
      refine lv_if_eq (tgt := 293) hx hb dX7_next_241 (by decide) (fun c_34 => ?_) (fun c_34 => ?_)
      · replace hw := hw.1 c_34
        exact hKx293_31 _ _ _ _ _ P (lv_sub hl [0, 1] rfl) hw
      · replace hw := hw.2 c_34
        refine lv_aload_n hx hb dX7_next_244 rfl (lv_at hl 0 rfl) ?_
        refine lv_iload_n hx hb dX7_next_245 rfl (lv_at hl 1 rfl) ?_
        refine lv_iconst (v := 4) hx hb dX7_next_246 (by decide) ?_
        refine lv_icmp_ge (tgt := 273) hx hb dX7_next_247 (by decide) (fun c_35 => ?_) (fun c_35 => ?_)
        · replace hw := hw.1 c_35
          refine lv_iconst (v := 0) hx hb dX7_next_273 (by decide) ?_
          exact kwm_next_J274 X hr _ _ _ P (lv_sub hl [0, 1] rfl) hw hKh214_31
        · replace hw := hw.2 c_35
          refine lv_bipush (v := 10) hx hb dX7_next_250 (by decide) ?_
          refine lv_aload_n hx hb dX7_next_252 rfl (lv_at hl 0 rfl) ?_
          refine mg_value X P dX7_next_253 ?_
          refine lv_imul hx hb dX7_next_256 ?_
          refine lv_aload_n hx hb dX7_next_257 rfl (lv_at hl 0 rfl) ?_
          refine mg_tape X P dX7_next_258 ?_
          refine lv_aload_n hx hb dX7_next_261 rfl (lv_at hl 0 rfl) ?_
          refine mg_at X P dX7_next_262 ?_
          refine m_iald X P 12 rfl (by decide) hw.1 dX7_next_265 ?_
          replace hw := hw.2
          refine lv_iadd hx hb dX7_next_266 ?_
          refine lv_bipush (v := 48) hx hb dX7_next_267 (by decide) ?_
          refine lv_isub hx hb dX7_next_269 ?_
          refine lv_goto (tgt := 274) hx hb dX7_next_270 (by decide) ?_
          exact kwm_next_J274 X hr _ _ _ P (lv_sub hl [0, 1] rfl) hw hKh214_31
def wm_next_J304 (F : tF) (Ar : tA) (z0_42 : Int32) (Q : tF → tA → Prop) : Prop :=
  ∀ F_43 : tF, F_43 = upd F 31 z0_42 → Q F_43 Ar
set_option maxHeartbeats 4000000 in
theorem kwm_next_J304 {Q : tF → tA → Prop} (X : mCx p s m args meth c cX7_next 5 D cl ci dA dL) (hr : meth.sig.returnType = none) {F : tF} {Ar : tA} (z0_42 : Int32) {H : Heap} {locs : List Loc} {ls : Array Slot} (P : mP D cl (mReg ad) ci dA dL ad s.heap F Ar H locs) (hl : lv_has ls 5 [(0, .ref (ad 0))]) (hw : wm_next_J304 F Ar z0_42 Q) : W p l e ({ frames := 2, cells := 0, slots := 0, locals := 45 }) s m args below meth c H locs 0 0 (MQ below (mQv D cl ci dA dL ad Q) args s 0 0 (mReg ad)) (F0 m 304 ls [.int z0_42, .ref (ad 0)]) := by
  obtain ⟨hx, hb, hml, hown, hts, -, -, hlk⟩ := id X
  have S : CallFix p m c _ _ s args lw_all RX7 := ⟨hx, hb, hml, hown, hts⟩
  refine mp_token X P dX7_next_304 (fun F_43 H locs eF_43 P => ?_)
  replace hw := hw F_43 eF_43
  refine lv_goto (tgt := 387) hx hb dX7_next_307 (by decide) ?_
  exact m_vret X P hr hw dX7_next_387
def wm_next_L111 (F : tF) (Ar : tA) (y2_48 : Int64) (Kx136_48 : Int32 → Prop) (Q : tF → tA → Prop) : Nat → Int32 → Prop
  | 0, _ => False
  | f111 + 1, y4_48 =>
    (((11 : Int32) ≤ y4_48 → (Kx136_48 y4_48)) ∧ (¬ (11 : Int32) ≤ y4_48 → vp_in y4_48 11 ∧ (((mWd y4_48.toNatClampNeg) = y2_48 → (Kx136_48 y4_48)) ∧ (¬ (mWd y4_48.toNatClampNeg) = y2_48 → ((wm_next_L111 F Ar y2_48 Kx136_48 Q f111) (y4_48 + 1))))))
set_option maxHeartbeats 4000000 in
theorem kwm_next_L111 {Q : tF → tA → Prop} (X : mCx p s m args meth c cX7_next 5 D cl ci dA dL) (hr : meth.sig.returnType = none) (F : tF) (Ar : tA) (y2_48 : Int64) (Kx136_48 : Int32 → Prop) (hKx136_48 : ∀ (w4_ : Int32) (H : Heap) (locs : List Loc) (ls : Array Slot), mP D cl (mReg ad) ci dA dL ad s.heap F Ar H locs → lv_has ls 5 [(0, .ref (ad 0)), (4, .int w4_)] → Kx136_48 w4_ → W p l e ({ frames := 2, cells := 0, slots := 0, locals := 45 }) s m args below meth c H locs 0 0 (MQ below (mQv D cl ci dA dL ad Q) args s 0 0 (mReg ad)) (F0 m 136 ls [])) : ∀ (n : Nat) (y4_48 : Int32) (H : Heap) (locs : List Loc) (ls : Array Slot), mP D cl (mReg ad) ci dA dL ad s.heap F Ar H locs → lv_has ls 5 [(0, .ref (ad 0)), (2, .long y2_48), (4, .int y4_48)] → wm_next_L111 F Ar y2_48 Kx136_48 Q n y4_48 → W p l e ({ frames := 2, cells := 0, slots := 0, locals := 45 }) s m args below meth c H locs 0 0 (MQ below (mQv D cl ci dA dL ad Q) args s 0 0 (mReg ad)) (F0 m 111 ls []) := by
  obtain ⟨hx, hb, hml, hown, hts, -, -, hlk⟩ := id X
  have S : CallFix p m c _ _ s args lw_all RX7 := ⟨hx, hb, hml, hown, hts⟩
  intro n
  induction n with
  | zero =>
    intro y4_48 H locs ls P hl hw
    exact hw.elim
  | succ n ih =>
    intro y4_48 H locs ls P hl hw
    have hKh111_48 := ih
    refine lv_iload hx hb dX7_next_111 (lv_at hl 2 rfl) ?_
    refine lv_bipush (v := 11) hx hb dX7_next_113 (by decide) ?_
    refine lv_icmp_ge (tgt := 136) hx hb dX7_next_115 (by decide) (fun c_49 => ?_) (fun c_49 => ?_)
    · replace hw := hw.1 c_49
      exact hKx136_48 _ _ _ _ P (lv_sub hl [0, 2] rfl) hw
    · replace hw := hw.2 c_49
      refine lv_aload_n hx hb dX7_next_118 rfl (lv_at hl 0 rfl) ?_
      refine mg_words X P dX7_next_119 ?_
      refine lv_iload hx hb dX7_next_122 (lv_at hl 2 rfl) ?_
      refine m_wald X P hw.1 dX7_next_124 ?_
      replace hw := hw.2
      refine lv_lload_n hx hb dX7_next_125 rfl (lv_at hl 1 rfl) ?_
      refine lc_eq (tgt := 136) hx hb dX7_next_126 dX7_next_127 (by decide) (fun c_50 => ?_) (fun c_50 => ?_)
      · replace hw := hw.1 c_50
        exact hKx136_48 _ _ _ _ P (lv_sub hl [0, 2] rfl) hw
      · replace hw := hw.2 c_50
        refine lv_iinc (v := (y4_48 + 1)) (lv' := [(4, .int (y4_48 + 1)), (0, .ref (ad 0)), (2, .long y2_48)]) hx hb dX7_next_130 hl (k := 2) rfl rfl (by decide) rfl (fun ls hl => ?_)
        refine lv_goto (tgt := 111) hx hb dX7_next_133 (by decide) ?_
        exact hKh111_48 _ _ _ _ P (lv_sub hl [1, 2, 0] rfl) hw
def wm_next_J195 (F : tF) (Ar : tA) (z0_58 : Int32) (Q : tF → tA → Prop) : Prop :=
  ∀ F_59 : tF, F_59 = upd F 32 z0_58 → Q F_59 Ar
set_option maxHeartbeats 4000000 in
theorem kwm_next_J195 {Q : tF → tA → Prop} (X : mCx p s m args meth c cX7_next 5 D cl ci dA dL) (hr : meth.sig.returnType = none) {F : tF} {Ar : tA} (z0_58 : Int32) {H : Heap} {locs : List Loc} {ls : Array Slot} (P : mP D cl (mReg ad) ci dA dL ad s.heap F Ar H locs) (hl : lv_has ls 5 [(0, .ref (ad 0))]) (hw : wm_next_J195 F Ar z0_58 Q) : W p l e ({ frames := 2, cells := 0, slots := 0, locals := 45 }) s m args below meth c H locs 0 0 (MQ below (mQv D cl ci dA dL ad Q) args s 0 0 (mReg ad)) (F0 m 195 ls [.int z0_58, .ref (ad 0)]) := by
  obtain ⟨hx, hb, hml, hown, hts, -, -, hlk⟩ := id X
  have S : CallFix p m c _ _ s args lw_all RX7 := ⟨hx, hb, hml, hown, hts⟩
  refine mp_value X P dX7_next_195 (fun F_59 H locs eF_59 P => ?_)
  replace hw := hw F_59 eF_59
  refine lv_goto (tgt := 387) hx hb dX7_next_198 (by decide) ?_
  exact m_vret X P hr hw dX7_next_387
def wm_next_J176 (F : tF) (Ar : tA) (y4_55 : Int32) (z0_55 : Int32) (Q : tF → tA → Prop) : Prop :=
  ∀ F_56 : tF, F_56 = upd F 31 z0_55 → (((2 : Int32) ≤ y4_55 → (wm_next_J195 F_56 Ar (y4_55 - 2) Q)) ∧ (¬ (2 : Int32) ≤ y4_55 → (wm_next_J195 F_56 Ar y4_55 Q)))
set_option maxHeartbeats 4000000 in
theorem kwm_next_J176 {Q : tF → tA → Prop} (X : mCx p s m args meth c cX7_next 5 D cl ci dA dL) (hr : meth.sig.returnType = none) {F : tF} {Ar : tA} (y4_55 : Int32) (z0_55 : Int32) {H : Heap} {locs : List Loc} {ls : Array Slot} (P : mP D cl (mReg ad) ci dA dL ad s.heap F Ar H locs) (hl : lv_has ls 5 [(0, .ref (ad 0)), (4, .int y4_55)]) (hw : wm_next_J176 F Ar y4_55 z0_55 Q) : W p l e ({ frames := 2, cells := 0, slots := 0, locals := 45 }) s m args below meth c H locs 0 0 (MQ below (mQv D cl ci dA dL ad Q) args s 0 0 (mReg ad)) (F0 m 176 ls [.int z0_55, .ref (ad 0)]) := by
  obtain ⟨hx, hb, hml, hown, hts, -, -, hlk⟩ := id X
  have S : CallFix p m c _ _ s args lw_all RX7 := ⟨hx, hb, hml, hown, hts⟩
  refine mp_token X P dX7_next_176 (fun F_56 H locs eF_56 P => ?_)
  replace hw := hw F_56 eF_56
  refine lv_aload_n hx hb dX7_next_179 rfl (lv_at hl 0 rfl) ?_
  refine lv_iload hx hb dX7_next_180 (lv_at hl 1 rfl) ?_
  refine lv_iconst (v := 2) hx hb dX7_next_182 (by decide) ?_
  refine lv_icmp_ge (tgt := 191) hx hb dX7_next_183 (by decide) (fun c_57 => ?_) (fun c_57 => ?_)
  · replace hw := hw.1 c_57
    refine lv_iload hx hb dX7_next_191 (lv_at hl 1 rfl) ?_
    refine lv_iconst (v := 2) hx hb dX7_next_193 (by decide) ?_
    refine lv_isub hx hb dX7_next_194 ?_
    exact kwm_next_J195 X hr _ P (lv_sub hl [0] rfl) hw
  · replace hw := hw.2 c_57
    refine lv_iload hx hb dX7_next_186 (lv_at hl 1 rfl) ?_
    refine lv_goto (tgt := 195) hx hb dX7_next_188 (by decide) ?_
    exact kwm_next_J195 X hr _ P (lv_sub hl [0] rfl) hw
def wm_next (F : tF) (Ar : tA) (Q : tF → tA → Prop) : Prop :=
  (∃ n0, wm_next_L0 Ar (fun (F_7 : tF) => ∀ F_8 : tF, F_8 = upd F_7 30 (F_7 29) → ∀ F_9 : tF, F_9 = upd F_8 31 0 → ∀ F_10 : tF, F_10 = upd F_9 32 0 → ((¬ (F_10 29) = (F_10 13) → vp_in (F_10 29) 160 ∧ ∀ x1_12 : Int32, x1_12 = (Ar 12 (F_10 29).toNatClampNeg) → wm_in x1_12 97 122 (fun r_13 => ((r_13 = 0 → wm_in x1_12 48 57 (fun r_15 => ((r_15 = 0 → ((x1_12 = 40 → (wm_next_J358 F_10 Ar x1_12 Q)) ∧ (¬ x1_12 = 40 → ((x1_12 = 41 → (wm_next_J358 F_10 Ar x1_12 Q)) ∧ (¬ x1_12 = 41 → ((x1_12 = 59 → (wm_next_J358 F_10 Ar x1_12 Q)) ∧ (¬ x1_12 = 59 → ((x1_12 = 43 → (wm_next_J358 F_10 Ar x1_12 Q)) ∧ (¬ x1_12 = 43 → ((x1_12 = 45 → (wm_next_J358 F_10 Ar x1_12 Q)) ∧ (¬ x1_12 = 45 → ((x1_12 = 42 → (wm_next_J358 F_10 Ar x1_12 Q)) ∧ (¬ x1_12 = 42 → ((x1_12 = 60 → (wm_next_J358 F_10 Ar x1_12 Q)) ∧ (¬ x1_12 = 60 → ((¬ x1_12 = 61 → (wm_next_J363 F_10 Ar x1_12 0 Q)) ∧ (x1_12 = 61 → (wm_next_J358 F_10 Ar x1_12 Q)))))))))))))))))) ∧ (¬ r_15 = 0 → (∃ n214, wm_next_L214 Ar (fun (F_39 : tF) (x2_40 : Int32) => ((x2_40 ≤ 4 → (wm_next_J304 F_39 Ar 1 Q)) ∧ (¬ x2_40 ≤ 4 → (wm_next_J304 F_39 Ar (-1) Q)))) Q n214 F_10 0))))) ∧ (¬ r_13 = 0 → wm_letters F_10 Ar (fun r_45 F_46 Ar_47 => (∃ n111, wm_next_L111 F_46 Ar_47 r_45 (fun (x4_51 : Int32) => (((2 : Int32) ≤ x4_51 → (((8 : Int32) ≤ x4_51 → ((¬ x4_51 = 11 → (wm_next_J176 F_46 Ar_47 x4_51 ((4 + x4_51) - 8) Q)) ∧ (x4_51 = 11 → (wm_next_J176 F_46 Ar_47 x4_51 (-1) Q)))) ∧ (¬ (8 : Int32) ≤ x4_51 → (wm_next_J176 F_46 Ar_47 x4_51 2 Q)))) ∧ (¬ (2 : Int32) ≤ x4_51 → (wm_next_J176 F_46 Ar_47 x4_51 3 Q)))) Q n111 0)))))) ∧ ((F_10 29) = (F_10 13) → Q F_10 Ar))) Q n0 F)
set_option maxHeartbeats 4000000 in
theorem twm_next (l : Launch) (D : va_G) (cl : List vw_C) (ci : Nat) (dA dL : ClassId) (ad : Nat → Nat) (F : tF) (Ar : tA) (Q : tF → tA → Prop) (hw : wm_next F Ar  Q) : Met l yX7_next (ws_ yX7_next cX7_next 5 none) ({ frames := 2, cells := 0, slots := 0, locals := 45 }) (mPc D cl ci dA dL ad F Ar []) (mQv D cl ci dA dL ad Q) 0 0 (mReg ad) := by
  refine m_entry (by decide) rfl (Nat.le_of_ble_eq_true rfl) ?_
  intro p e s m below meth c ls X hr P hl
  obtain ⟨hx, hb, hml, hown, hts, -, -, hlk⟩ := id X
  have S : CallFix p m c _ _ s _ lw_all RX7 := ⟨hx, hb, hml, hown, hts⟩
  have hl : lv_has ls 5 [(0, .ref (ad 0))] := hl
  obtain ⟨n_61, hw⟩ := hw
  refine kwm_next_L0 X hr _ _   ?_ n_61 _ _ _ _ P (lv_sub hl [0] rfl) hw
  · intro F_7 H locs ls P hl hw
    refine lv_aload_n hx hb dX7_next_52 rfl (lv_at hl 0 rfl) ?_
    refine lv_aload_n hx hb dX7_next_53 rfl (lv_at hl 0 rfl) ?_
    refine mg_at X P dX7_next_54 ?_
    refine mp_begun X P dX7_next_57 (fun F_8 H locs eF_8 P => ?_)
    replace hw := hw F_8 eF_8
    refine lv_aload_n hx hb dX7_next_60 rfl (lv_at hl 0 rfl) ?_
    refine lv_iconst (v := 0) hx hb dX7_next_61 (by decide) ?_
    refine mp_token X P dX7_next_62 (fun F_9 H locs eF_9 P => ?_)
    replace hw := hw F_9 eF_9
    refine lv_aload_n hx hb dX7_next_65 rfl (lv_at hl 0 rfl) ?_
    refine lv_iconst (v := 0) hx hb dX7_next_66 (by decide) ?_
    refine mp_value X P dX7_next_67 (fun F_10 H locs eF_10 P => ?_)
    replace hw := hw F_10 eF_10
    refine lv_aload_n hx hb dX7_next_70 rfl (lv_at hl 0 rfl) ?_
    refine mg_at X P dX7_next_71 ?_
    refine lv_aload_n hx hb dX7_next_74 rfl (lv_at hl 0 rfl) ?_
    refine mg_taped X P dX7_next_75 ?_
    refine lv_icmp_ne (tgt := 82) hx hb dX7_next_78 (by decide) (fun c_11 => ?_) (fun c_11 => ?_)
    · replace hw := hw.1 c_11
      refine lv_aload_n hx hb dX7_next_82 rfl (lv_at hl 0 rfl) ?_
      refine mg_tape X P dX7_next_83 ?_
      refine lv_aload_n hx hb dX7_next_86 rfl (lv_at hl 0 rfl) ?_
      refine mg_at X P dX7_next_87 ?_
      refine m_iald X P 12 rfl (by decide) hw.1 dX7_next_90 ?_
      replace hw := hw.2
      refine lv_topi (fun x1_12 ex1_12 => ?_)
      replace hw := hw x1_12 ex1_12
      refine lv_istore_n (lv' := [(1, .int x1_12), (0, .ref (ad 0))]) hx hb dX7_next_91 rfl hl (by decide) rfl (fun ls hl => ?_)
      refine lv_iload_n hx hb dX7_next_92 rfl (lv_at hl 0 rfl) ?_
      refine lv_bipush (v := 97) hx hb dX7_next_93 (by decide) ?_
      refine lv_bipush (v := 122) hx hb dX7_next_95 (by decide) ?_
      refine cwm_in S hw ⟨Nat.le_of_ble_eq_true rfl, Nat.le_of_ble_eq_true rfl⟩ hl.1 (Nat.le_of_ble_eq_true rfl) dX7_next_97 (fun r_13 hw => ?_)
      refine lv_if_eq (tgt := 201) hx hb dX7_next_100 (by decide) (fun c_14 => ?_) (fun c_14 => ?_)
      · replace hw := hw.1 c_14
        refine lv_iload_n hx hb dX7_next_201 rfl (lv_at hl 0 rfl) ?_
        refine lv_bipush (v := 48) hx hb dX7_next_202 (by decide) ?_
        refine lv_bipush (v := 57) hx hb dX7_next_204 (by decide) ?_
        refine cwm_in S hw ⟨Nat.le_of_ble_eq_true rfl, Nat.le_of_ble_eq_true rfl⟩ hl.1 (Nat.le_of_ble_eq_true rfl) dX7_next_206 (fun r_15 hw => ?_)
        refine lv_if_eq (tgt := 310) hx hb dX7_next_209 (by decide) (fun c_16 => ?_) (fun c_16 => ?_)
        · replace hw := hw.1 c_16
          refine lv_iload_n hx hb dX7_next_310 rfl (lv_at hl 0 rfl) ?_
          refine lv_bipush (v := 40) hx hb dX7_next_311 (by decide) ?_
          refine lv_icmp_eq (tgt := 358) hx hb dX7_next_313 (by decide) (fun c_17 => ?_) (fun c_17 => ?_)
          · replace hw := hw.1 c_17
            exact kwm_next_J358 X hr _ P (lv_sub hl [1, 0] rfl) hw
          · replace hw := hw.2 c_17
            refine lv_iload_n hx hb dX7_next_316 rfl (lv_at hl 0 rfl) ?_
            refine lv_bipush (v := 41) hx hb dX7_next_317 (by decide) ?_
            refine lv_icmp_eq (tgt := 358) hx hb dX7_next_319 (by decide) (fun c_24 => ?_) (fun c_24 => ?_)
            · replace hw := hw.1 c_24
              exact kwm_next_J358 X hr _ P (lv_sub hl [1, 0] rfl) hw
            · replace hw := hw.2 c_24
              refine lv_iload_n hx hb dX7_next_322 rfl (lv_at hl 0 rfl) ?_
              refine lv_bipush (v := 59) hx hb dX7_next_323 (by decide) ?_
              refine lv_icmp_eq (tgt := 358) hx hb dX7_next_325 (by decide) (fun c_25 => ?_) (fun c_25 => ?_)
              · replace hw := hw.1 c_25
                exact kwm_next_J358 X hr _ P (lv_sub hl [1, 0] rfl) hw
              · replace hw := hw.2 c_25
                refine lv_iload_n hx hb dX7_next_328 rfl (lv_at hl 0 rfl) ?_
                refine lv_bipush (v := 43) hx hb dX7_next_329 (by decide) ?_
                refine lv_icmp_eq (tgt := 358) hx hb dX7_next_331 (by decide) (fun c_26 => ?_) (fun c_26 => ?_)
                · replace hw := hw.1 c_26
                  exact kwm_next_J358 X hr _ P (lv_sub hl [1, 0] rfl) hw
                · replace hw := hw.2 c_26
                  refine lv_iload_n hx hb dX7_next_334 rfl (lv_at hl 0 rfl) ?_
                  refine lv_bipush (v := 45) hx hb dX7_next_335 (by decide) ?_
                  refine lv_icmp_eq (tgt := 358) hx hb dX7_next_337 (by decide) (fun c_27 => ?_) (fun c_27 => ?_)
                  · replace hw := hw.1 c_27
                    exact kwm_next_J358 X hr _ P (lv_sub hl [1, 0] rfl) hw
                  · replace hw := hw.2 c_27
                    refine lv_iload_n hx hb dX7_next_340 rfl (lv_at hl 0 rfl) ?_
                    refine lv_bipush (v := 42) hx hb dX7_next_341 (by decide) ?_
                    refine lv_icmp_eq (tgt := 358) hx hb dX7_next_343 (by decide) (fun c_28 => ?_) (fun c_28 => ?_)
                    · replace hw := hw.1 c_28
                      exact kwm_next_J358 X hr _ P (lv_sub hl [1, 0] rfl) hw
                    · replace hw := hw.2 c_28
                      refine lv_iload_n hx hb dX7_next_346 rfl (lv_at hl 0 rfl) ?_
                      refine lv_bipush (v := 60) hx hb dX7_next_347 (by decide) ?_
                      refine lv_icmp_eq (tgt := 358) hx hb dX7_next_349 (by decide) (fun c_29 => ?_) (fun c_29 => ?_)
                      · replace hw := hw.1 c_29
                        exact kwm_next_J358 X hr _ P (lv_sub hl [1, 0] rfl) hw
                      · replace hw := hw.2 c_29
                        refine lv_iload_n hx hb dX7_next_352 rfl (lv_at hl 0 rfl) ?_
                        refine lv_bipush (v := 61) hx hb dX7_next_353 (by decide) ?_
                        refine lv_icmp_ne (tgt := 362) hx hb dX7_next_355 (by decide) (fun c_30 => ?_) (fun c_30 => ?_)
                        · replace hw := hw.1 c_30
                          refine lv_iconst (v := 0) hx hb dX7_next_362 (by decide) ?_
                          exact kwm_next_J363 X hr _ _ P (lv_sub hl [1, 0] rfl) hw
                        · replace hw := hw.2 c_30
                          exact kwm_next_J358 X hr _ P (lv_sub hl [1, 0] rfl) hw
        · replace hw := hw.2 c_16
          refine lv_iconst (v := 0) hx hb dX7_next_212 (by decide) ?_
          refine lv_istore_n (lv' := [(2, .int 0), (1, .int x1_12), (0, .ref (ad 0))]) hx hb dX7_next_213 rfl hl (by decide) rfl (fun ls hl => ?_)
          obtain ⟨n_44, hw⟩ := hw
          refine kwm_next_L214 X hr _ _   ?_ n_44 _ _ _ _ _ P (lv_sub hl [2, 0] rfl) hw
          · intro F_39 x2_40 H locs ls P hl hw
            refine lv_aload_n hx hb dX7_next_293 rfl (lv_at hl 0 rfl) ?_
            refine lv_iload_n hx hb dX7_next_294 rfl (lv_at hl 1 rfl) ?_
            refine lv_iconst (v := 4) hx hb dX7_next_295 (by decide) ?_
            refine lv_icmp_le (tgt := 303) hx hb dX7_next_296 (by decide) (fun c_41 => ?_) (fun c_41 => ?_)
            · replace hw := hw.1 c_41
              refine lv_iconst (v := 1) hx hb dX7_next_303 (by decide) ?_
              exact kwm_next_J304 X hr _ P (lv_sub hl [0] rfl) hw
            · replace hw := hw.2 c_41
              refine lv_iconst (v := (-1)) hx hb dX7_next_299 (by decide) ?_
              refine lv_goto (tgt := 304) hx hb dX7_next_300 (by decide) ?_
              exact kwm_next_J304 X hr _ P (lv_sub hl [0] rfl) hw
      · replace hw := hw.2 c_14
        refine lv_aload_n hx hb dX7_next_103 rfl (lv_at hl 1 rfl) ?_
        refine cwm_letters X P hw ⟨Nat.le_of_ble_eq_true rfl, Nat.le_of_ble_eq_true rfl⟩ hl.1 (Nat.le_of_ble_eq_true rfl) dX7_next_104 (fun r_45 F_46 Ar_47 H locs hw P => ?_)
        refine lv_lstore_n (lv' := [(2, .long r_45), (1, .int x1_12), (0, .ref (ad 0))]) hx hb dX7_next_107 rfl hl (by decide) rfl (fun ls hl => ?_)
        refine lv_iconst (v := 0) hx hb dX7_next_108 (by decide) ?_
        refine lv_istore (lv' := [(4, .int 0), (2, .long r_45), (1, .int x1_12), (0, .ref (ad 0))]) hx hb dX7_next_109 hl (by decide) rfl (fun ls hl => ?_)
        obtain ⟨n_60, hw⟩ := hw
        refine kwm_next_L111 X hr _ _ _ _   ?_ n_60 _ _ _ _ P (lv_sub hl [3, 1, 0] rfl) hw
        · intro x4_51 H locs ls P hl hw
          refine lv_aload_n hx hb dX7_next_136 rfl (lv_at hl 0 rfl) ?_
          refine lv_iload hx hb dX7_next_137 (lv_at hl 1 rfl) ?_
          refine lv_iconst (v := 2) hx hb dX7_next_139 (by decide) ?_
          refine lv_icmp_ge (tgt := 147) hx hb dX7_next_140 (by decide) (fun c_52 => ?_) (fun c_52 => ?_)
          · replace hw := hw.1 c_52
            refine lv_iload hx hb dX7_next_147 (lv_at hl 1 rfl) ?_
            refine lv_bipush (v := 8) hx hb dX7_next_149 (by decide) ?_
            refine lv_icmp_ge (tgt := 158) hx hb dX7_next_151 (by decide) (fun c_53 => ?_) (fun c_53 => ?_)
            · replace hw := hw.1 c_53
              refine lv_iload hx hb dX7_next_158 (lv_at hl 1 rfl) ?_
              refine lv_bipush (v := 11) hx hb dX7_next_160 (by decide) ?_
              refine lv_icmp_ne (tgt := 169) hx hb dX7_next_162 (by decide) (fun c_54 => ?_) (fun c_54 => ?_)
              · replace hw := hw.1 c_54
                refine lv_iconst (v := 4) hx hb dX7_next_169 (by decide) ?_
                refine lv_iload hx hb dX7_next_170 (lv_at hl 1 rfl) ?_
                refine lv_iadd hx hb dX7_next_172 ?_
                refine lv_bipush (v := 8) hx hb dX7_next_173 (by decide) ?_
                refine lv_isub hx hb dX7_next_175 ?_
                exact kwm_next_J176 X hr _ _ P (lv_sub hl [0, 1] rfl) hw
              · replace hw := hw.2 c_54
                refine lv_iconst (v := (-1)) hx hb dX7_next_165 (by decide) ?_
                refine lv_goto (tgt := 176) hx hb dX7_next_166 (by decide) ?_
                exact kwm_next_J176 X hr _ _ P (lv_sub hl [0, 1] rfl) hw
            · replace hw := hw.2 c_53
              refine lv_iconst (v := 2) hx hb dX7_next_154 (by decide) ?_
              refine lv_goto (tgt := 176) hx hb dX7_next_155 (by decide) ?_
              exact kwm_next_J176 X hr _ _ P (lv_sub hl [0, 1] rfl) hw
          · replace hw := hw.2 c_52
            refine lv_iconst (v := 3) hx hb dX7_next_143 (by decide) ?_
            refine lv_goto (tgt := 176) hx hb dX7_next_144 (by decide) ?_
            exact kwm_next_J176 X hr _ _ P (lv_sub hl [0, 1] rfl) hw
    · replace hw := hw.2 c_11
      exact m_vret X P hr hw dX7_next_81
theorem cwm_next {Q : tF → tA → Prop} {Z : State → Prop} {H : Heap} {locs : List Loc} {F : tF} {Ar : tA} (X : mCx p s m args meth c cc nL D cl ci dA dL) (P : mP D cl (mReg ad) ci dA dL ad s.heap F Ar H locs) (hw : wm_next F Ar  Q) (hR : 2 + 1 ≤ R.frames ∧ 8 + (5 + 11) + 45 ≤ R.locals) (hls : ls.size = nL) (hst : (rest.map fun v => v.category).sum ≤ 8) (hdg : decode cc pc = .ok (.invokevirtual 189, 3)) (kk : ∀ (F1 : tF) (A1 : tA) (H1 : Heap) (locs1 : List Loc), Q F1 A1 → mP D cl (mReg ad) ci dA dL ad s.heap F1 A1 H1 locs1 → W p l e R s m args below meth c H1 locs1 0 0 Z (F0 m (pc + 3) ls (rest))) : W p l e R s m args below meth c H locs 0 0 Z (F0 m pc ls (.ref (ad 0) :: rest)) := by
  obtain ⟨hx, hb, hml, hown, hts, hK, hc, hlk⟩ := X
  exact va_callv (m_runV (as := []) hx hb hml hown hts hK hc P.1 P.2.1 (twm_next l D cl ci dA dL ad F Ar  Q hw) (cwV 0 hts (lw_V q1531 q1533 qs36 q88 q1534) rfl rfl rfl (by decide +kernel) hR) rfl hls hst hdg ⟨Nat.zero_le _, Nat.zero_le _⟩) P.2.2 (fun q _ h => h) (fun q h => h) (fun u t H1 locs1 ht hvm hp hB _ _ hS => kk u.1 u.2 H1 locs1 hp ⟨by rw [← ht]; exact hB, P.2.1.to (fun k h => mM_dom.mpr (mM_dom.mp h)), hS⟩)
end MM0
