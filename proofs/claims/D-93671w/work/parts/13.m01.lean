/-! by gen/model.py: methods of the model, 1 -/
set_option maxRecDepth 100000
section MM1
variable {p : Program} {l : Launch} {e : Env} {R : Room} {s : State} {m : MethodId} {args : Array Value} {below : List Frame} {meth : Method} {c : Code}
variable {cc : ByteArray} {nL pc : Nat} {ls : Array Slot} {rest : List Value} {D : va_G} {cl : List vw_C} {ci : Nat} {dA dL : ClassId} {ad : Nat → Nat}
-- opensOne
def wm_opensOne (F : tF) (Ar : tA) (a1 : Int32) (Q : Int32 → tF → tA → Prop) : Prop :=
  ((¬ (F 36) = 5 → ∀ F_2 : tF, F_2 = upd F 36 ((F 36) + 1) → wm_holds F_2 Ar a1 (fun F_4 Ar_5 => Q 1 F_4 Ar_5)) ∧ ((F 36) = 5 → Q 0 F Ar))
set_option maxHeartbeats 4000000 in
theorem twm_opensOne (l : Launch) (D : va_G) (cl : List vw_C) (ci : Nat) (dA dL : ClassId) (ad : Nat → Nat) (F : tF) (Ar : tA) (a1 : Int32) (Q : Int32 → tF → tA → Prop) (hw : wm_opensOne F Ar a1 Q) : Met l yX7_opensOne (ws_ yX7_opensOne cX7_opensOne 2 (some .boolean)) ({ frames := 1, cells := 0, slots := 0, locals := 21 }) (mPc D cl ci dA dL ad F Ar [.int a1]) (mQi D cl ci dA dL ad Q) 0 0 (mReg ad) := by
  refine m_entry (by decide) rfl (Nat.le_of_ble_eq_true rfl) ?_
  intro p e s m below meth c ls X hr P hl
  obtain ⟨hx, hb, hml, hown, hts, -, -, hlk⟩ := id X
  have S : CallFix p m c _ _ s _ lw_all RX7 := ⟨hx, hb, hml, hown, hts⟩
  have hl : lv_has ls 2 [(0, .ref (ad 0)), (1, .int a1)] := hl
  refine lv_aload_n hx hb dX7_opensOne_0 rfl (lv_at hl 0 rfl) ?_
  refine mg_opens X P dX7_opensOne_1 ?_
  refine lv_iconst (v := 5) hx hb dX7_opensOne_4 (by decide) ?_
  refine lv_icmp_ne (tgt := 10) hx hb dX7_opensOne_5 (by decide) (fun c_1 => ?_) (fun c_1 => ?_)
  · replace hw := hw.1 c_1
    refine lv_aload_n hx hb dX7_opensOne_10 rfl (lv_at hl 0 rfl) ?_
    refine lv_dup hx hb dX7_opensOne_11 rfl ?_
    refine mg_opens X P dX7_opensOne_12 ?_
    refine lv_iconst (v := 1) hx hb dX7_opensOne_15 (by decide) ?_
    refine lv_iadd hx hb dX7_opensOne_16 ?_
    refine mp_opens X P dX7_opensOne_17 (fun F_2 H locs eF_2 P => ?_)
    replace hw := hw F_2 eF_2
    refine lv_aload_n hx hb dX7_opensOne_20 rfl (lv_at hl 0 rfl) ?_
    refine lv_iload_n hx hb dX7_opensOne_21 rfl (lv_at hl 1 rfl) ?_
    refine cwm_holds X P hw ⟨Nat.le_of_ble_eq_true rfl, Nat.le_of_ble_eq_true rfl⟩ hl.1 (Nat.le_of_ble_eq_true rfl) dX7_opensOne_22 (fun F_4 Ar_5 H locs hw P => ?_)
    refine lv_iconst (v := 1) hx hb dX7_opensOne_25 (by decide) ?_
    exact m_zret X P hr (Or.inr rfl) hw dX7_opensOne_26
  · replace hw := hw.2 c_1
    refine lv_iconst (v := 0) hx hb dX7_opensOne_8 (by decide) ?_
    exact m_zret X P hr (Or.inl rfl) hw dX7_opensOne_9
theorem cwm_opensOne {Q : Int32 → tF → tA → Prop} {a1 : Int32} {Z : State → Prop} {H : Heap} {locs : List Loc} {F : tF} {Ar : tA} (X : mCx p s m args meth c cc nL D cl ci dA dL) (P : mP D cl (mReg ad) ci dA dL ad s.heap F Ar H locs) (hw : wm_opensOne F Ar a1 Q) (hR : 1 + 1 ≤ R.frames ∧ 8 + (2 + 11) + 21 ≤ R.locals) (hls : ls.size = nL) (hst : (rest.map fun v => v.category).sum ≤ 8) (hdg : decode cc pc = .ok (.invokevirtual 193, 3)) (kk : ∀ (r : Int32) (F1 : tF) (A1 : tA) (H1 : Heap) (locs1 : List Loc), Q r F1 A1 → mP D cl (mReg ad) ci dA dL ad s.heap F1 A1 H1 locs1 → W p l e R s m args below meth c H1 locs1 0 0 Z (F0 m (pc + 3) ls (.int r :: rest))) : W p l e R s m args below meth c H locs 0 0 Z (F0 m pc ls (.int a1 :: .ref (ad 0) :: rest)) := by
  obtain ⟨hx, hb, hml, hown, hts, hK, hc, hlk⟩ := X
  exact va_calli (m_runV (as := [.int a1]) hx hb hml hown hts hK hc P.1 P.2.1 (twm_opensOne l D cl ci dA dL ad F Ar a1 Q hw) (cwV 1 hts (lw_V q1555 q1557 qs41 q88 q1558) rfl rfl rfl (by decide +kernel) hR) rfl hls hst hdg ⟨Nat.zero_le _, Nat.zero_le _⟩) P.2.2 (fun q _ h => h) (fun q h => h) (fun r u t H1 locs1 ht hvm hp hB _ _ hS => kk r u.1 u.2 H1 locs1 hp ⟨by rw [← ht]; exact hB, P.2.1.to (fun k h => mM_dom.mpr (mM_dom.mp h)), hS⟩)
-- signOf
def wm_signOf (F : tF) (Ar : tA) (Q : Int32 → Prop) : Prop :=
  ((¬ (F 31) = 4 → ((¬ (F 31) = 5 → ((¬ (F 31) = 60 → ((¬ (F 31) = 61 → ((¬ (F 31) = 43 → ((¬ (F 31) = 45 → ((¬ (F 31) = 42 → Q (-1)) ∧ ((F 31) = 42 → Q 18))) ∧ ((F 31) = 45 → Q 17))) ∧ ((F 31) = 43 → Q 16))) ∧ ((F 31) = 61 → Q 15))) ∧ ((F 31) = 60 → Q 14))) ∧ ((F 31) = 5 → Q 12))) ∧ ((F 31) = 4 → Q 11))
set_option maxHeartbeats 4000000 in
theorem twm_signOf (l : Launch) (D : va_G) (cl : List vw_C) (ci : Nat) (dA dL : ClassId) (ad : Nat → Nat) (F : tF) (Ar : tA) (Q : Int32 → Prop) (hw : wm_signOf F Ar  Q) : Met l yX7_signOf (ws_ yX7_signOf cX7_signOf 1 (some .int)) ({ frames := 0, cells := 0, slots := 0, locals := 0 }) (mPc D cl ci dA dL ad F Ar []) (vp_Si Q) 0 0 (fun _ => False) := by
  refine m_entry (by decide) rfl (Nat.le_of_ble_eq_true rfl) ?_
  intro p e s m below meth c ls X hr P hl
  obtain ⟨hx, hb, hml, hown, hts, -, -, hlk⟩ := id X
  have S : CallFix p m c _ _ s _ lw_all RX7 := ⟨hx, hb, hml, hown, hts⟩
  have hl : lv_has ls 1 [(0, .ref (ad 0))] := hl
  refine lv_aload_n hx hb dX7_signOf_0 rfl (lv_at hl 0 rfl) ?_
  refine mg_token X P dX7_signOf_1 ?_
  refine lv_iconst (v := 4) hx hb dX7_signOf_4 (by decide) ?_
  refine lv_icmp_ne (tgt := 13) hx hb dX7_signOf_5 (by decide) (fun c_1 => ?_) (fun c_1 => ?_)
  · replace hw := hw.1 c_1
    refine lv_aload_n hx hb dX7_signOf_13 rfl (lv_at hl 0 rfl) ?_
    refine mg_token X P dX7_signOf_14 ?_
    refine lv_iconst (v := 5) hx hb dX7_signOf_17 (by decide) ?_
    refine lv_icmp_ne (tgt := 26) hx hb dX7_signOf_18 (by decide) (fun c_2 => ?_) (fun c_2 => ?_)
    · replace hw := hw.1 c_2
      refine lv_aload_n hx hb dX7_signOf_26 rfl (lv_at hl 0 rfl) ?_
      refine mg_token X P dX7_signOf_27 ?_
      refine lv_bipush (v := 60) hx hb dX7_signOf_30 (by decide) ?_
      refine lv_icmp_ne (tgt := 40) hx hb dX7_signOf_32 (by decide) (fun c_3 => ?_) (fun c_3 => ?_)
      · replace hw := hw.1 c_3
        refine lv_aload_n hx hb dX7_signOf_40 rfl (lv_at hl 0 rfl) ?_
        refine mg_token X P dX7_signOf_41 ?_
        refine lv_bipush (v := 61) hx hb dX7_signOf_44 (by decide) ?_
        refine lv_icmp_ne (tgt := 54) hx hb dX7_signOf_46 (by decide) (fun c_4 => ?_) (fun c_4 => ?_)
        · replace hw := hw.1 c_4
          refine lv_aload_n hx hb dX7_signOf_54 rfl (lv_at hl 0 rfl) ?_
          refine mg_token X P dX7_signOf_55 ?_
          refine lv_bipush (v := 43) hx hb dX7_signOf_58 (by decide) ?_
          refine lv_icmp_ne (tgt := 68) hx hb dX7_signOf_60 (by decide) (fun c_5 => ?_) (fun c_5 => ?_)
          · replace hw := hw.1 c_5
            refine lv_aload_n hx hb dX7_signOf_68 rfl (lv_at hl 0 rfl) ?_
            refine mg_token X P dX7_signOf_69 ?_
            refine lv_bipush (v := 45) hx hb dX7_signOf_72 (by decide) ?_
            refine lv_icmp_ne (tgt := 82) hx hb dX7_signOf_74 (by decide) (fun c_6 => ?_) (fun c_6 => ?_)
            · replace hw := hw.1 c_6
              refine lv_aload_n hx hb dX7_signOf_82 rfl (lv_at hl 0 rfl) ?_
              refine mg_token X P dX7_signOf_83 ?_
              refine lv_bipush (v := 42) hx hb dX7_signOf_86 (by decide) ?_
              refine lv_icmp_ne (tgt := 96) hx hb dX7_signOf_88 (by decide) (fun c_7 => ?_) (fun c_7 => ?_)
              · replace hw := hw.1 c_7
                refine lv_iconst (v := (-1)) hx hb dX7_signOf_96 (by decide) ?_
                exact r_iret hx hb hlk hr hw dX7_signOf_97
              · replace hw := hw.2 c_7
                refine lv_bipush (v := 18) hx hb dX7_signOf_91 (by decide) ?_
                refine lv_goto (tgt := 97) hx hb dX7_signOf_93 (by decide) ?_
                exact r_iret hx hb hlk hr hw dX7_signOf_97
            · replace hw := hw.2 c_6
              refine lv_bipush (v := 17) hx hb dX7_signOf_77 (by decide) ?_
              refine lv_goto (tgt := 97) hx hb dX7_signOf_79 (by decide) ?_
              exact r_iret hx hb hlk hr hw dX7_signOf_97
          · replace hw := hw.2 c_5
            refine lv_bipush (v := 16) hx hb dX7_signOf_63 (by decide) ?_
            refine lv_goto (tgt := 97) hx hb dX7_signOf_65 (by decide) ?_
            exact r_iret hx hb hlk hr hw dX7_signOf_97
        · replace hw := hw.2 c_4
          refine lv_bipush (v := 15) hx hb dX7_signOf_49 (by decide) ?_
          refine lv_goto (tgt := 97) hx hb dX7_signOf_51 (by decide) ?_
          exact r_iret hx hb hlk hr hw dX7_signOf_97
      · replace hw := hw.2 c_3
        refine lv_bipush (v := 14) hx hb dX7_signOf_35 (by decide) ?_
        refine lv_goto (tgt := 97) hx hb dX7_signOf_37 (by decide) ?_
        exact r_iret hx hb hlk hr hw dX7_signOf_97
    · replace hw := hw.2 c_2
      refine lv_bipush (v := 12) hx hb dX7_signOf_21 (by decide) ?_
      refine lv_goto (tgt := 97) hx hb dX7_signOf_23 (by decide) ?_
      exact r_iret hx hb hlk hr hw dX7_signOf_97
  · replace hw := hw.2 c_1
    refine lv_bipush (v := 11) hx hb dX7_signOf_8 (by decide) ?_
    refine lv_goto (tgt := 97) hx hb dX7_signOf_10 (by decide) ?_
    exact r_iret hx hb hlk hr hw dX7_signOf_97
theorem cwm_signOf {Q : Int32 → Prop} {Z : State → Prop} {H : Heap} {locs : List Loc} {F : tF} {Ar : tA} (X : mCx p s m args meth c cc nL D cl ci dA dL) (P : mP D cl (mReg ad) ci dA dL ad s.heap F Ar H locs) (hw : wm_signOf F Ar  Q) (hR : 0 + 1 ≤ R.frames ∧ 8 + (1 + 11) + 0 ≤ R.locals) (hls : ls.size = nL) (hst : (rest.map fun v => v.category).sum ≤ 8) (hdg : decode cc pc = .ok (.invokevirtual 196, 3)) (kk : ∀ r, Q r → W p l e R s m args below meth c H locs 0 0 Z (F0 m (pc + 3) ls (.int r :: rest))) : W p l e R s m args below meth c H locs 0 0 Z (F0 m pc ls (.ref (ad 0) :: rest)) := by
  obtain ⟨hx, hb, hml, hown, hts, hK, hc, hlk⟩ := X
  exact vp_callSi (m_runR (as := []) hx hb hml hown hts hK hc P.1 P.2.1 (twm_signOf l D cl ci dA dL ad F Ar  Q hw) (cwV 0 hts (lw_V q1563 q1565 qs43 q88 q1566) rfl rfl rfl (by decide +kernel) hR) rfl hls hst hdg ⟨Nat.zero_le _, Nat.zero_le _⟩) kk
-- eRead
def wm_eRead_J262 (F : tF) (Ar : tA) (y1_17 : Int32) (z0_17 : Int32) (Kh14_3 : tF → tA → Int32 → Int32 → Prop) (Q : Int32 → tF → tA → Prop) : Prop :=
  (Kh14_3 F Ar y1_17 z0_17)
set_option maxHeartbeats 4000000 in
theorem kwm_eRead_J262 {Q : Int32 → tF → tA → Prop} (X : mCx p s m args meth c cX7_eRead 4 D cl ci dA dL) (hr : meth.sig.returnType = (some .boolean)) {F : tF} {Ar : tA} (y1_17 : Int32) (z0_17 : Int32) (Kh14_3 : tF → tA → Int32 → Int32 → Prop) {H : Heap} {locs : List Loc} {ls : Array Slot} (P : mP D cl (mReg ad) ci dA dL ad s.heap F Ar H locs) (hl : lv_has ls 4 [(0, .ref (ad 0)), (1, .int y1_17)]) (hw : wm_eRead_J262 F Ar y1_17 z0_17 Kh14_3 Q) (hKh14_3 : ∀ (F_ : tF) (Ar_ : tA) (w1_ : Int32) (w2_ : Int32) (H : Heap) (locs : List Loc) (ls : Array Slot), mP D cl (mReg ad) ci dA dL ad s.heap F_ Ar_ H locs → lv_has ls 4 [(0, .ref (ad 0)), (1, .int w1_), (2, .int w2_)] → Kh14_3 F_ Ar_ w1_ w2_ → W p l e ({ frames := 3, cells := 0, slots := 0, locals := 69 }) s m args below meth c H locs 0 0 (MQ below (mQi D cl ci dA dL ad Q) args s 0 0 (mReg ad)) (F0 m 14 ls [])) : W p l e ({ frames := 3, cells := 0, slots := 0, locals := 69 }) s m args below meth c H locs 0 0 (MQ below (mQi D cl ci dA dL ad Q) args s 0 0 (mReg ad)) (F0 m 262 ls [.int z0_17]) := by
  obtain ⟨hx, hb, hml, hown, hts, -, -, hlk⟩ := id X
  have S : CallFix p m c _ _ s args lw_all RX7 := ⟨hx, hb, hml, hown, hts⟩
  refine lv_istore_n (lv' := [(2, .int z0_17), (0, .ref (ad 0)), (1, .int y1_17)]) hx hb dX7_eRead_262 rfl hl (by decide) rfl (fun ls hl => ?_)
  refine lv_goto (tgt := 14) hx hb dX7_eRead_263 (by decide) ?_
  exact hKh14_3 _ _ _ _ _ _ _ P (lv_sub hl [1, 2, 0] rfl) hw
def wm_eRead_J61 (F : tF) (Ar : tA) (y2_30 : Int32) (z0_30 : Int32) (Kh14_3 : tF → tA → Int32 → Int32 → Prop) (Q : Int32 → tF → tA → Prop) : Prop :=
  wm_puts F Ar z0_30 (fun F_32 Ar_33 => wm_unwinds F_32 Ar_33 7 (fun F_35 Ar_36 => (Kh14_3 F_35 Ar_36 0 y2_30)))
set_option maxHeartbeats 4000000 in
theorem kwm_eRead_J61 {Q : Int32 → tF → tA → Prop} (X : mCx p s m args meth c cX7_eRead 4 D cl ci dA dL) (hr : meth.sig.returnType = (some .boolean)) {F : tF} {Ar : tA} (y2_30 : Int32) (z0_30 : Int32) (Kh14_3 : tF → tA → Int32 → Int32 → Prop) {H : Heap} {locs : List Loc} {ls : Array Slot} (P : mP D cl (mReg ad) ci dA dL ad s.heap F Ar H locs) (hl : lv_has ls 4 [(0, .ref (ad 0)), (2, .int y2_30)]) (hw : wm_eRead_J61 F Ar y2_30 z0_30 Kh14_3 Q) (hKh14_3 : ∀ (F_ : tF) (Ar_ : tA) (w1_ : Int32) (w2_ : Int32) (H : Heap) (locs : List Loc) (ls : Array Slot), mP D cl (mReg ad) ci dA dL ad s.heap F_ Ar_ H locs → lv_has ls 4 [(0, .ref (ad 0)), (1, .int w1_), (2, .int w2_)] → Kh14_3 F_ Ar_ w1_ w2_ → W p l e ({ frames := 3, cells := 0, slots := 0, locals := 69 }) s m args below meth c H locs 0 0 (MQ below (mQi D cl ci dA dL ad Q) args s 0 0 (mReg ad)) (F0 m 14 ls [])) : W p l e ({ frames := 3, cells := 0, slots := 0, locals := 69 }) s m args below meth c H locs 0 0 (MQ below (mQi D cl ci dA dL ad Q) args s 0 0 (mReg ad)) (F0 m 61 ls [.int z0_30, .ref (ad 0)]) := by
  obtain ⟨hx, hb, hml, hown, hts, -, -, hlk⟩ := id X
  have S : CallFix p m c _ _ s args lw_all RX7 := ⟨hx, hb, hml, hown, hts⟩
  refine cwm_puts X P hw ⟨Nat.le_of_ble_eq_true rfl, Nat.le_of_ble_eq_true rfl⟩ hl.1 (Nat.le_of_ble_eq_true rfl) dX7_eRead_61 (fun F_32 Ar_33 H locs hw P => ?_)
  refine lv_aload_n hx hb dX7_eRead_64 rfl (lv_at hl 0 rfl) ?_
  refine lv_bipush (v := 7) hx hb dX7_eRead_65 (by decide) ?_
  refine cwm_unwinds X P hw ⟨Nat.le_of_ble_eq_true rfl, Nat.le_of_ble_eq_true rfl⟩ hl.1 (Nat.le_of_ble_eq_true rfl) dX7_eRead_67 (fun F_35 Ar_36 H locs hw P => ?_)
  refine lv_iconst (v := 0) hx hb dX7_eRead_70 (by decide) ?_
  refine lv_istore_n (lv' := [(1, .int 0), (0, .ref (ad 0)), (2, .int y2_30)]) hx hb dX7_eRead_71 rfl hl (by decide) rfl (fun ls hl => ?_)
  refine lv_goto (tgt := 14) hx hb dX7_eRead_72 (by decide) ?_
  exact hKh14_3 _ _ _ _ _ _ _ P (lv_sub hl [1, 0, 2] rfl) hw
def wm_eRead_J38 (F : tF) (Ar : tA) (y2_28 : Int32) (Kh14_3 : tF → tA → Int32 → Int32 → Prop) (Q : Int32 → tF → tA → Prop) : Prop :=
  ((¬ (F 31) = 1 → (wm_eRead_J61 F Ar y2_28 (F 32) Kh14_3 Q)) ∧ ((F 31) = 1 → (wm_eRead_J61 F Ar y2_28 (100000 + (F 32)) Kh14_3 Q)))
set_option maxHeartbeats 4000000 in
theorem kwm_eRead_J38 {Q : Int32 → tF → tA → Prop} (X : mCx p s m args meth c cX7_eRead 4 D cl ci dA dL) (hr : meth.sig.returnType = (some .boolean)) {F : tF} {Ar : tA} (y2_28 : Int32) (Kh14_3 : tF → tA → Int32 → Int32 → Prop) {H : Heap} {locs : List Loc} {ls : Array Slot} (P : mP D cl (mReg ad) ci dA dL ad s.heap F Ar H locs) (hl : lv_has ls 4 [(0, .ref (ad 0)), (2, .int y2_28)]) (hw : wm_eRead_J38 F Ar y2_28 Kh14_3 Q) (hKh14_3 : ∀ (F_ : tF) (Ar_ : tA) (w1_ : Int32) (w2_ : Int32) (H : Heap) (locs : List Loc) (ls : Array Slot), mP D cl (mReg ad) ci dA dL ad s.heap F_ Ar_ H locs → lv_has ls 4 [(0, .ref (ad 0)), (1, .int w1_), (2, .int w2_)] → Kh14_3 F_ Ar_ w1_ w2_ → W p l e ({ frames := 3, cells := 0, slots := 0, locals := 69 }) s m args below meth c H locs 0 0 (MQ below (mQi D cl ci dA dL ad Q) args s 0 0 (mReg ad)) (F0 m 14 ls [])) : W p l e ({ frames := 3, cells := 0, slots := 0, locals := 69 }) s m args below meth c H locs 0 0 (MQ below (mQi D cl ci dA dL ad Q) args s 0 0 (mReg ad)) (F0 m 38 ls []) := by
  obtain ⟨hx, hb, hml, hown, hts, -, -, hlk⟩ := id X
  have S : CallFix p m c _ _ s args lw_all RX7 := ⟨hx, hb, hml, hown, hts⟩
  refine lv_aload_n hx hb dX7_eRead_38 rfl (lv_at hl 0 rfl) ?_
  refine lv_aload_n hx hb dX7_eRead_39 rfl (lv_at hl 0 rfl) ?_
  refine mg_token X P dX7_eRead_40 ?_
  refine lv_iconst (v := 1) hx hb dX7_eRead_43 (by decide) ?_
  refine lv_icmp_ne (tgt := 57) hx hb dX7_eRead_44 (by decide) (fun c_29 => ?_) (fun c_29 => ?_)
  · replace hw := hw.1 c_29
    refine lv_aload_n hx hb dX7_eRead_57 rfl (lv_at hl 0 rfl) ?_
    refine mg_value X P dX7_eRead_58 ?_
    exact kwm_eRead_J61 X hr _ _ _ P (lv_sub hl [0, 1] rfl) hw hKh14_3
  · replace hw := hw.2 c_29
    refine lv_ldc (v := 100000) hx hb hown (hts _ q1543) dX7_eRead_47 ?_
    refine lv_aload_n hx hb dX7_eRead_49 rfl (lv_at hl 0 rfl) ?_
    refine mg_value X P dX7_eRead_50 ?_
    refine lv_iadd hx hb dX7_eRead_53 ?_
    refine lv_goto (tgt := 61) hx hb dX7_eRead_54 (by decide) ?_
    exact kwm_eRead_J61 X hr _ _ _ P (lv_sub hl [0, 1] rfl) hw hKh14_3
def wm_eRead_J99 (F : tF) (Ar : tA) (y1_39 : Int32) (Kh14_3 : tF → tA → Int32 → Int32 → Prop) (Q : Int32 → tF → tA → Prop) : Prop :=
  ((¬ (F 31) = 45 → ((¬ (F 31) = 40 → Q 0 F Ar) ∧ ((F 31) = 40 → wm_opensOne F Ar 0 (fun r_42 F_43 Ar_44 => ((¬ r_42 = 0 → (Kh14_3 F_43 Ar_44 y1_39 1)) ∧ (r_42 = 0 → Q 0 F_43 Ar_44)))))) ∧ ((F 31) = 45 → wm_opensOne F Ar 19 (fun r_46 F_47 Ar_48 => ((¬ r_46 = 0 → (Kh14_3 F_47 Ar_48 y1_39 0)) ∧ (r_46 = 0 → Q 0 F_47 Ar_48)))))
set_option maxHeartbeats 4000000 in
theorem kwm_eRead_J99 {Q : Int32 → tF → tA → Prop} (X : mCx p s m args meth c cX7_eRead 4 D cl ci dA dL) (hr : meth.sig.returnType = (some .boolean)) {F : tF} {Ar : tA} (y1_39 : Int32) (Kh14_3 : tF → tA → Int32 → Int32 → Prop) {H : Heap} {locs : List Loc} {ls : Array Slot} (P : mP D cl (mReg ad) ci dA dL ad s.heap F Ar H locs) (hl : lv_has ls 4 [(0, .ref (ad 0)), (1, .int y1_39)]) (hw : wm_eRead_J99 F Ar y1_39 Kh14_3 Q) (hKh14_3 : ∀ (F_ : tF) (Ar_ : tA) (w1_ : Int32) (w2_ : Int32) (H : Heap) (locs : List Loc) (ls : Array Slot), mP D cl (mReg ad) ci dA dL ad s.heap F_ Ar_ H locs → lv_has ls 4 [(0, .ref (ad 0)), (1, .int w1_), (2, .int w2_)] → Kh14_3 F_ Ar_ w1_ w2_ → W p l e ({ frames := 3, cells := 0, slots := 0, locals := 69 }) s m args below meth c H locs 0 0 (MQ below (mQi D cl ci dA dL ad Q) args s 0 0 (mReg ad)) (F0 m 14 ls [])) : W p l e ({ frames := 3, cells := 0, slots := 0, locals := 69 }) s m args below meth c H locs 0 0 (MQ below (mQi D cl ci dA dL ad Q) args s 0 0 (mReg ad)) (F0 m 99 ls []) := by
  obtain ⟨hx, hb, hml, hown, hts, -, -, hlk⟩ := id X
  have S : CallFix p m c _ _ s args lw_all RX7 := ⟨hx, hb, hml, hown, hts⟩
  refine lv_aload_n hx hb dX7_eRead_99 rfl (lv_at hl 0 rfl) ?_
  refine mg_token X P dX7_eRead_100 ?_
  refine lv_bipush (v := 45) hx hb dX7_eRead_103 (by decide) ?_
  refine lv_icmp_ne (tgt := 124) hx hb dX7_eRead_105 (by decide) (fun c_40 => ?_) (fun c_40 => ?_)
  · replace hw := hw.1 c_40
    refine lv_aload_n hx hb dX7_eRead_124 rfl (lv_at hl 0 rfl) ?_
    refine mg_token X P dX7_eRead_125 ?_
    refine lv_bipush (v := 40) hx hb dX7_eRead_128 (by decide) ?_
    refine lv_icmp_ne (tgt := 148) hx hb dX7_eRead_130 (by decide) (fun c_41 => ?_) (fun c_41 => ?_)
    · replace hw := hw.1 c_41
      refine lv_iconst (v := 0) hx hb dX7_eRead_148 (by decide) ?_
      exact m_zret X P hr (Or.inl rfl) hw dX7_eRead_149
    · replace hw := hw.2 c_41
      refine lv_aload_n hx hb dX7_eRead_133 rfl (lv_at hl 0 rfl) ?_
      refine lv_iconst (v := 0) hx hb dX7_eRead_134 (by decide) ?_
      refine cwm_opensOne X P hw ⟨Nat.le_of_ble_eq_true rfl, Nat.le_of_ble_eq_true rfl⟩ hl.1 (Nat.le_of_ble_eq_true rfl) dX7_eRead_135 (fun r_42 F_43 Ar_44 H locs hw P => ?_)
      refine lv_if_ne (tgt := 143) hx hb dX7_eRead_138 (by decide) (fun c_45 => ?_) (fun c_45 => ?_)
      · replace hw := hw.1 c_45
        refine lv_iconst (v := 1) hx hb dX7_eRead_143 (by decide) ?_
        refine lv_istore_n (lv' := [(2, .int 1), (0, .ref (ad 0)), (1, .int y1_39)]) hx hb dX7_eRead_144 rfl hl (by decide) rfl (fun ls hl => ?_)
        refine lv_goto (tgt := 14) hx hb dX7_eRead_145 (by decide) ?_
        exact hKh14_3 _ _ _ _ _ _ _ P (lv_sub hl [1, 2, 0] rfl) hw
      · replace hw := hw.2 c_45
        refine lv_iconst (v := 0) hx hb dX7_eRead_141 (by decide) ?_
        exact m_zret X P hr (Or.inl rfl) hw dX7_eRead_142
  · replace hw := hw.2 c_40
    refine lv_aload_n hx hb dX7_eRead_108 rfl (lv_at hl 0 rfl) ?_
    refine lv_bipush (v := 19) hx hb dX7_eRead_109 (by decide) ?_
    refine cwm_opensOne X P hw ⟨Nat.le_of_ble_eq_true rfl, Nat.le_of_ble_eq_true rfl⟩ hl.1 (Nat.le_of_ble_eq_true rfl) dX7_eRead_111 (fun r_46 F_47 Ar_48 H locs hw P => ?_)
    refine lv_if_ne (tgt := 119) hx hb dX7_eRead_114 (by decide) (fun c_49 => ?_) (fun c_49 => ?_)
    · replace hw := hw.1 c_49
      refine lv_iconst (v := 0) hx hb dX7_eRead_119 (by decide) ?_
      refine lv_istore_n (lv' := [(2, .int 0), (0, .ref (ad 0)), (1, .int y1_39)]) hx hb dX7_eRead_120 rfl hl (by decide) rfl (fun ls hl => ?_)
      refine lv_goto (tgt := 14) hx hb dX7_eRead_121 (by decide) ?_
      exact hKh14_3 _ _ _ _ _ _ _ P (lv_sub hl [1, 2, 0] rfl) hw
    · replace hw := hw.2 c_49
      refine lv_iconst (v := 0) hx hb dX7_eRead_117 (by decide) ?_
      exact m_zret X P hr (Or.inl rfl) hw dX7_eRead_118
def wm_eRead_L14 (Kx159_3 : tF → tA → Prop) (Q : Int32 → tF → tA → Prop) : Nat → tF → tA → Int32 → Int32 → Prop
  | 0, _, _, _, _ => False
  | f14 + 1, F, Ar, y1_3, y2_3 =>
    wm_next F Ar (fun F_5 Ar_6 => ((y1_3 = 0 → ((¬ (F_5 31) = 59 → ((¬ (F_5 31) = 41 → wm_signOf F_5 Ar_6 (fun r_10 => ((r_10 = (-1) → Q 0 F_5 Ar_6) ∧ (¬ r_10 = (-1) → wm_between F_5 Ar_6 r_10 (fun r_12 F_13 Ar_14 => ((¬ r_12 = 0 → (((12 : Int32) < r_10 → (wm_eRead_J262 F_13 Ar_14 1 0 (wm_eRead_L14 Kx159_3 Q f14) Q)) ∧ (¬ (12 : Int32) < r_10 → (wm_eRead_J262 F_13 Ar_14 1 1 (wm_eRead_L14 Kx159_3 Q f14) Q)))) ∧ (r_12 = 0 → Q 0 F_13 Ar_14))))))) ∧ ((F_5 31) = 41 → wm_unwinds F_5 Ar_6 1 (fun F_19 Ar_20 => ((¬ (F_19 35) = 0 → ∀ F_22 : tF, F_22 = upd F_19 35 ((F_19 35) - 1) → ∀ F_23 : tF, F_23 = upd F_22 36 ((F_22 36) - 1) → wm_unwinds F_23 Ar_20 7 (fun F_25 Ar_26 => ((wm_eRead_L14 Kx159_3 Q f14) F_25 Ar_26 y1_3 y2_3))) ∧ ((F_19 35) = 0 → Q 0 F_19 Ar_20)))))) ∧ ((F_5 31) = 59 → (Kx159_3 F_5 Ar_6)))) ∧ (¬ y1_3 = 0 → (((F_5 31) = 1 → (wm_eRead_J38 F_5 Ar_6 y2_3 (wm_eRead_L14 Kx159_3 Q f14) Q)) ∧ (¬ (F_5 31) = 1 → ((¬ (F_5 31) = 2 → ((¬ (F_5 31) = 6 → (wm_eRead_J99 F_5 Ar_6 y1_3 (wm_eRead_L14 Kx159_3 Q f14) Q)) ∧ ((F_5 31) = 6 → ((y2_3 = 0 → (wm_eRead_J99 F_5 Ar_6 y1_3 (wm_eRead_L14 Kx159_3 Q f14) Q)) ∧ (¬ y2_3 = 0 → wm_opensOne F_5 Ar_6 13 (fun r_51 F_52 Ar_53 => ((¬ r_51 = 0 → ((wm_eRead_L14 Kx159_3 Q f14) F_52 Ar_53 y1_3 y2_3)) ∧ (r_51 = 0 → Q 0 F_52 Ar_53)))))))) ∧ ((F_5 31) = 2 → (wm_eRead_J38 F_5 Ar_6 y2_3 (wm_eRead_L14 Kx159_3 Q f14) Q))))))))
set_option maxHeartbeats 4000000 in
theorem kwm_eRead_L14 {Q : Int32 → tF → tA → Prop} (X : mCx p s m args meth c cX7_eRead 4 D cl ci dA dL) (hr : meth.sig.returnType = (some .boolean)) (Kx159_3 : tF → tA → Prop) (hKx159_3 : ∀ (F_ : tF) (Ar_ : tA) (H : Heap) (locs : List Loc) (ls : Array Slot), mP D cl (mReg ad) ci dA dL ad s.heap F_ Ar_ H locs → lv_has ls 4 [(0, .ref (ad 0))] → Kx159_3 F_ Ar_ → W p l e ({ frames := 3, cells := 0, slots := 0, locals := 69 }) s m args below meth c H locs 0 0 (MQ below (mQi D cl ci dA dL ad Q) args s 0 0 (mReg ad)) (F0 m 159 ls [])) : ∀ (n : Nat) (F : tF) (Ar : tA) (y1_3 : Int32) (y2_3 : Int32) (H : Heap) (locs : List Loc) (ls : Array Slot), mP D cl (mReg ad) ci dA dL ad s.heap F Ar H locs → lv_has ls 4 [(0, .ref (ad 0)), (1, .int y1_3), (2, .int y2_3)] → wm_eRead_L14 Kx159_3 Q n F Ar y1_3 y2_3 → W p l e ({ frames := 3, cells := 0, slots := 0, locals := 69 }) s m args below meth c H locs 0 0 (MQ below (mQi D cl ci dA dL ad Q) args s 0 0 (mReg ad)) (F0 m 14 ls []) := by
  obtain ⟨hx, hb, hml, hown, hts, -, -, hlk⟩ := id X
  have S : CallFix p m c _ _ s args lw_all RX7 := ⟨hx, hb, hml, hown, hts⟩
  intro n
  induction n with
  | zero =>
    intro F Ar y1_3 y2_3 H locs ls P hl hw
    exact hw.elim
  | succ n ih =>
    intro F Ar y1_3 y2_3 H locs ls P hl hw
    have hKh14_3 := ih
    refine lv_aload_n hx hb dX7_eRead_14 rfl (lv_at hl 0 rfl) ?_
    refine cwm_next X P hw ⟨Nat.le_of_ble_eq_true rfl, Nat.le_of_ble_eq_true rfl⟩ hl.1 (Nat.le_of_ble_eq_true rfl) dX7_eRead_15 (fun F_5 Ar_6 H locs hw P => ?_)
    refine lv_iload_n hx hb dX7_eRead_18 rfl (lv_at hl 1 rfl) ?_
    refine lv_if_eq (tgt := 150) hx hb dX7_eRead_19 (by decide) (fun c_7 => ?_) (fun c_7 => ?_)
    · replace hw := hw.1 c_7
      refine lv_aload_n hx hb dX7_eRead_150 rfl (lv_at hl 0 rfl) ?_
      refine mg_token X P dX7_eRead_151 ?_
      refine lv_bipush (v := 59) hx hb dX7_eRead_154 (by decide) ?_
      refine lv_icmp_ne (tgt := 177) hx hb dX7_eRead_156 (by decide) (fun c_8 => ?_) (fun c_8 => ?_)
      · replace hw := hw.1 c_8
        refine lv_aload_n hx hb dX7_eRead_177 rfl (lv_at hl 0 rfl) ?_
        refine mg_token X P dX7_eRead_178 ?_
        refine lv_bipush (v := 41) hx hb dX7_eRead_181 (by decide) ?_
        refine lv_icmp_ne (tgt := 229) hx hb dX7_eRead_183 (by decide) (fun c_9 => ?_) (fun c_9 => ?_)
        · replace hw := hw.1 c_9
          refine lv_aload_n hx hb dX7_eRead_229 rfl (lv_at hl 0 rfl) ?_
          refine cwm_signOf X P hw ⟨Nat.le_of_ble_eq_true rfl, Nat.le_of_ble_eq_true rfl⟩ hl.1 (Nat.le_of_ble_eq_true rfl) dX7_eRead_230 (fun r_10 hw => ?_)
          refine lv_istore_n (lv' := [(3, .int r_10), (0, .ref (ad 0)), (1, .int y1_3), (2, .int y2_3)]) hx hb dX7_eRead_233 rfl hl (by decide) rfl (fun ls hl => ?_)
          refine lv_iload_n hx hb dX7_eRead_234 rfl (lv_at hl 0 rfl) ?_
          refine lv_iconst (v := (-1)) hx hb dX7_eRead_235 (by decide) ?_
          refine lv_icmp_eq (tgt := 247) hx hb dX7_eRead_236 (by decide) (fun c_11 => ?_) (fun c_11 => ?_)
          · replace hw := hw.1 c_11
            refine lv_iconst (v := 0) hx hb dX7_eRead_247 (by decide) ?_
            exact m_zret X P hr (Or.inl rfl) hw dX7_eRead_248
          · replace hw := hw.2 c_11
            refine lv_aload_n hx hb dX7_eRead_239 rfl (lv_at hl 1 rfl) ?_
            refine lv_iload_n hx hb dX7_eRead_240 rfl (lv_at hl 0 rfl) ?_
            refine cwm_between X P hw ⟨Nat.le_of_ble_eq_true rfl, Nat.le_of_ble_eq_true rfl⟩ hl.1 (Nat.le_of_ble_eq_true rfl) dX7_eRead_241 (fun r_12 F_13 Ar_14 H locs hw P => ?_)
            refine lv_if_ne (tgt := 249) hx hb dX7_eRead_244 (by decide) (fun c_15 => ?_) (fun c_15 => ?_)
            · replace hw := hw.1 c_15
              refine lv_iconst (v := 1) hx hb dX7_eRead_249 (by decide) ?_
              refine lv_istore_n (lv' := [(1, .int 1), (3, .int r_10), (0, .ref (ad 0)), (2, .int y2_3)]) hx hb dX7_eRead_250 rfl hl (by decide) rfl (fun ls hl => ?_)
              refine lv_iload_n hx hb dX7_eRead_251 rfl (lv_at hl 1 rfl) ?_
              refine lv_bipush (v := 12) hx hb dX7_eRead_252 (by decide) ?_
              refine lv_icmp_gt (tgt := 261) hx hb dX7_eRead_254 (by decide) (fun c_16 => ?_) (fun c_16 => ?_)
              · replace hw := hw.1 c_16
                refine lv_iconst (v := 0) hx hb dX7_eRead_261 (by decide) ?_
                exact kwm_eRead_J262 X hr _ _ _ P (lv_sub hl [2, 0] rfl) hw hKh14_3
              · replace hw := hw.2 c_16
                refine lv_iconst (v := 1) hx hb dX7_eRead_257 (by decide) ?_
                refine lv_goto (tgt := 262) hx hb dX7_eRead_258 (by decide) ?_
                exact kwm_eRead_J262 X hr _ _ _ P (lv_sub hl [2, 0] rfl) hw hKh14_3
            · replace hw := hw.2 c_15
              refine lv_iconst (v := 0) hx hb dX7_eRead_247 (by decide) ?_
              exact m_zret X P hr (Or.inl rfl) hw dX7_eRead_248
        · replace hw := hw.2 c_9
          refine lv_aload_n hx hb dX7_eRead_186 rfl (lv_at hl 0 rfl) ?_
          refine lv_iconst (v := 1) hx hb dX7_eRead_187 (by decide) ?_
          refine cwm_unwinds X P hw ⟨Nat.le_of_ble_eq_true rfl, Nat.le_of_ble_eq_true rfl⟩ hl.1 (Nat.le_of_ble_eq_true rfl) dX7_eRead_188 (fun F_19 Ar_20 H locs hw P => ?_)
          refine lv_aload_n hx hb dX7_eRead_191 rfl (lv_at hl 0 rfl) ?_
          refine mg_heldMany X P dX7_eRead_192 ?_
          refine lv_if_ne (tgt := 200) hx hb dX7_eRead_195 (by decide) (fun c_21 => ?_) (fun c_21 => ?_)
          · replace hw := hw.1 c_21
            refine lv_aload_n hx hb dX7_eRead_200 rfl (lv_at hl 0 rfl) ?_
            refine lv_dup hx hb dX7_eRead_201 rfl ?_
            refine mg_heldMany X P dX7_eRead_202 ?_
            refine lv_iconst (v := 1) hx hb dX7_eRead_205 (by decide) ?_
            refine lv_isub hx hb dX7_eRead_206 ?_
            refine mp_heldMany X P dX7_eRead_207 (fun F_22 H locs eF_22 P => ?_)
            replace hw := hw F_22 eF_22
            refine lv_aload_n hx hb dX7_eRead_210 rfl (lv_at hl 0 rfl) ?_
            refine lv_dup hx hb dX7_eRead_211 rfl ?_
            refine mg_opens X P dX7_eRead_212 ?_
            refine lv_iconst (v := 1) hx hb dX7_eRead_215 (by decide) ?_
            refine lv_isub hx hb dX7_eRead_216 ?_
            refine mp_opens X P dX7_eRead_217 (fun F_23 H locs eF_23 P => ?_)
            replace hw := hw F_23 eF_23
            refine lv_aload_n hx hb dX7_eRead_220 rfl (lv_at hl 0 rfl) ?_
            refine lv_bipush (v := 7) hx hb dX7_eRead_221 (by decide) ?_
            refine cwm_unwinds X P hw ⟨Nat.le_of_ble_eq_true rfl, Nat.le_of_ble_eq_true rfl⟩ hl.1 (Nat.le_of_ble_eq_true rfl) dX7_eRead_223 (fun F_25 Ar_26 H locs hw P => ?_)
            refine lv_goto (tgt := 14) hx hb dX7_eRead_226 (by decide) ?_
            exact hKh14_3 _ _ _ _ _ _ _ P (lv_sub hl [0, 1, 2] rfl) hw
          · replace hw := hw.2 c_21
            refine lv_iconst (v := 0) hx hb dX7_eRead_198 (by decide) ?_
            exact m_zret X P hr (Or.inl rfl) hw dX7_eRead_199
      · replace hw := hw.2 c_8
        exact hKx159_3 _ _ _ _ _ P (lv_sub hl [0] rfl) hw
    · replace hw := hw.2 c_7
      refine lv_aload_n hx hb dX7_eRead_22 rfl (lv_at hl 0 rfl) ?_
      refine mg_token X P dX7_eRead_23 ?_
      refine lv_iconst (v := 1) hx hb dX7_eRead_26 (by decide) ?_
      refine lv_icmp_eq (tgt := 38) hx hb dX7_eRead_27 (by decide) (fun c_27 => ?_) (fun c_27 => ?_)
      · replace hw := hw.1 c_27
        exact kwm_eRead_J38 X hr _ _ P (lv_sub hl [0, 2] rfl) hw hKh14_3
      · replace hw := hw.2 c_27
        refine lv_aload_n hx hb dX7_eRead_30 rfl (lv_at hl 0 rfl) ?_
        refine mg_token X P dX7_eRead_31 ?_
        refine lv_iconst (v := 2) hx hb dX7_eRead_34 (by decide) ?_
        refine lv_icmp_ne (tgt := 75) hx hb dX7_eRead_35 (by decide) (fun c_37 => ?_) (fun c_37 => ?_)
        · replace hw := hw.1 c_37
          refine lv_aload_n hx hb dX7_eRead_75 rfl (lv_at hl 0 rfl) ?_
          refine mg_token X P dX7_eRead_76 ?_
          refine lv_bipush (v := 6) hx hb dX7_eRead_79 (by decide) ?_
          refine lv_icmp_ne (tgt := 99) hx hb dX7_eRead_81 (by decide) (fun c_38 => ?_) (fun c_38 => ?_)
          · replace hw := hw.1 c_38
            exact kwm_eRead_J99 X hr _ _ P (lv_sub hl [0, 1] rfl) hw hKh14_3
          · replace hw := hw.2 c_38
            refine lv_iload_n hx hb dX7_eRead_84 rfl (lv_at hl 2 rfl) ?_
            refine lv_if_eq (tgt := 99) hx hb dX7_eRead_85 (by decide) (fun c_50 => ?_) (fun c_50 => ?_)
            · replace hw := hw.1 c_50
              exact kwm_eRead_J99 X hr _ _ P (lv_sub hl [0, 1] rfl) hw hKh14_3
            · replace hw := hw.2 c_50
              refine lv_aload_n hx hb dX7_eRead_88 rfl (lv_at hl 0 rfl) ?_
              refine lv_bipush (v := 13) hx hb dX7_eRead_89 (by decide) ?_
              refine cwm_opensOne X P hw ⟨Nat.le_of_ble_eq_true rfl, Nat.le_of_ble_eq_true rfl⟩ hl.1 (Nat.le_of_ble_eq_true rfl) dX7_eRead_91 (fun r_51 F_52 Ar_53 H locs hw P => ?_)
              refine lv_if_ne (tgt := 14) hx hb dX7_eRead_94 (by decide) (fun c_54 => ?_) (fun c_54 => ?_)
              · replace hw := hw.1 c_54
                exact hKh14_3 _ _ _ _ _ _ _ P (lv_sub hl [0, 1, 2] rfl) hw
              · replace hw := hw.2 c_54
                refine lv_iconst (v := 0) hx hb dX7_eRead_97 (by decide) ?_
                exact m_zret X P hr (Or.inl rfl) hw dX7_eRead_98
        · replace hw := hw.2 c_37
          exact kwm_eRead_J38 X hr _ _ P (lv_sub hl [0, 2] rfl) hw hKh14_3
def wm_eRead (F : tF) (Ar : tA) (Q : Int32 → tF → tA → Prop) : Prop :=
  ∀ F_1 : tF, F_1 = upd F 35 0 → ∀ F_2 : tF, F_2 = upd F_1 36 0 → (∃ n14, wm_eRead_L14 (fun (F_55 : tF) (Ar_56 : tA) => wm_unwinds F_55 Ar_56 1 (fun F_58 Ar_59 => ((¬ (F_58 35) = 0 → Q 0 F_58 Ar_59) ∧ ((F_58 35) = 0 → Q 1 F_58 Ar_59)))) Q n14 F_2 Ar 1 1)
set_option maxHeartbeats 4000000 in
theorem twm_eRead (l : Launch) (D : va_G) (cl : List vw_C) (ci : Nat) (dA dL : ClassId) (ad : Nat → Nat) (F : tF) (Ar : tA) (Q : Int32 → tF → tA → Prop) (hw : wm_eRead F Ar  Q) : Met l yX7_eRead (ws_ yX7_eRead cX7_eRead 4 (some .boolean)) ({ frames := 3, cells := 0, slots := 0, locals := 69 }) (mPc D cl ci dA dL ad F Ar []) (mQi D cl ci dA dL ad Q) 0 0 (mReg ad) := by
  refine m_entry (by decide) rfl (Nat.le_of_ble_eq_true rfl) ?_
  intro p e s m below meth c ls X hr P hl
  obtain ⟨hx, hb, hml, hown, hts, -, -, hlk⟩ := id X
  have S : CallFix p m c _ _ s _ lw_all RX7 := ⟨hx, hb, hml, hown, hts⟩
  have hl : lv_has ls 4 [(0, .ref (ad 0))] := hl
  refine lv_aload_n hx hb dX7_eRead_0 rfl (lv_at hl 0 rfl) ?_
  refine lv_iconst (v := 0) hx hb dX7_eRead_1 (by decide) ?_
  refine mp_heldMany X P dX7_eRead_2 (fun F_1 H locs eF_1 P => ?_)
  replace hw := hw F_1 eF_1
  refine lv_aload_n hx hb dX7_eRead_5 rfl (lv_at hl 0 rfl) ?_
  refine lv_iconst (v := 0) hx hb dX7_eRead_6 (by decide) ?_
  refine mp_opens X P dX7_eRead_7 (fun F_2 H locs eF_2 P => ?_)
  replace hw := hw F_2 eF_2
  refine lv_iconst (v := 1) hx hb dX7_eRead_10 (by decide) ?_
  refine lv_istore_n (lv' := [(1, .int 1), (0, .ref (ad 0))]) hx hb dX7_eRead_11 rfl hl (by decide) rfl (fun ls hl => ?_)
  refine lv_iconst (v := 1) hx hb dX7_eRead_12 (by decide) ?_
  refine lv_istore_n (lv' := [(2, .int 1), (1, .int 1), (0, .ref (ad 0))]) hx hb dX7_eRead_13 rfl hl (by decide) rfl (fun ls hl => ?_)
  obtain ⟨n_61, hw⟩ := hw
  refine kwm_eRead_L14 X hr _   ?_ n_61 _ _ _ _ _ _ _ P (lv_sub hl [2, 1, 0] rfl) hw
  · intro F_55 Ar_56 H locs ls P hl hw
    refine lv_aload_n hx hb dX7_eRead_159 rfl (lv_at hl 0 rfl) ?_
    refine lv_iconst (v := 1) hx hb dX7_eRead_160 (by decide) ?_
    refine cwm_unwinds X P hw ⟨Nat.le_of_ble_eq_true rfl, Nat.le_of_ble_eq_true rfl⟩ hl.1 (Nat.le_of_ble_eq_true rfl) dX7_eRead_161 (fun F_58 Ar_59 H locs hw P => ?_)
    refine lv_aload_n hx hb dX7_eRead_164 rfl (lv_at hl 0 rfl) ?_
    refine mg_heldMany X P dX7_eRead_165 ?_
    refine lv_if_ne (tgt := 175) hx hb dX7_eRead_168 (by decide) (fun c_60 => ?_) (fun c_60 => ?_)
    · replace hw := hw.1 c_60
      refine lv_iconst (v := 0) hx hb dX7_eRead_175 (by decide) ?_
      exact m_zret X P hr (Or.inl rfl) hw dX7_eRead_176
    · replace hw := hw.2 c_60
      refine lv_iconst (v := 1) hx hb dX7_eRead_171 (by decide) ?_
      refine lv_goto (tgt := 176) hx hb dX7_eRead_172 (by decide) ?_
      exact m_zret X P hr (Or.inr rfl) hw dX7_eRead_176
theorem cwm_eRead {Q : Int32 → tF → tA → Prop} {Z : State → Prop} {H : Heap} {locs : List Loc} {F : tF} {Ar : tA} (X : mCx p s m args meth c cc nL D cl ci dA dL) (P : mP D cl (mReg ad) ci dA dL ad s.heap F Ar H locs) (hw : wm_eRead F Ar  Q) (hR : 3 + 1 ≤ R.frames ∧ 8 + (4 + 11) + 69 ≤ R.locals) (hls : ls.size = nL) (hst : (rest.map fun v => v.category).sum ≤ 8) (hdg : decode cc pc = .ok (.invokevirtual 203, 3)) (kk : ∀ (r : Int32) (F1 : tF) (A1 : tA) (H1 : Heap) (locs1 : List Loc), Q r F1 A1 → mP D cl (mReg ad) ci dA dL ad s.heap F1 A1 H1 locs1 → W p l e R s m args below meth c H1 locs1 0 0 Z (F0 m (pc + 3) ls (.int r :: rest))) : W p l e R s m args below meth c H locs 0 0 Z (F0 m pc ls (.ref (ad 0) :: rest)) := by
  obtain ⟨hx, hb, hml, hown, hts, hK, hc, hlk⟩ := X
  exact va_calli (m_runV (as := []) hx hb hml hown hts hK hc P.1 P.2.1 (twm_eRead l D cl ci dA dL ad F Ar  Q hw) (cwV 0 hts (lw_V q1539 q1541 qs38 q88 q1542) rfl rfl rfl (by decide +kernel) hR) rfl hls hst hdg ⟨Nat.zero_le _, Nat.zero_le _⟩) P.2.2 (fun q _ h => h) (fun q h => h) (fun r u t H1 locs1 ht hvm hp hB _ _ hS => kk r u.1 u.2 H1 locs1 hp ⟨by rw [← ht]; exact hB, P.2.1.to (fun k h => mM_dom.mpr (mM_dom.mp h)), hS⟩)
-- text
def wm_text_J94 (F : tF) (Ar : tA) (y2_16 : Int32) (z0_16 : Int32) (Kh26_4 : tF → tA → Int32 → Int32 → Prop) (Q : Int32 → tF → tA → Prop) : Prop :=
  (Kh26_4 F Ar z0_16 (y2_16 + 1))
set_option maxHeartbeats 4000000 in
theorem kwm_text_J94 {Q : Int32 → tF → tA → Prop} (X : mCx p s m args meth c cX7_text 3 D cl ci dA dL) (hr : meth.sig.returnType = (some .int)) {F : tF} {Ar : tA} (y2_16 : Int32) (z0_16 : Int32) (Kh26_4 : tF → tA → Int32 → Int32 → Prop) {H : Heap} {locs : List Loc} {ls : Array Slot} (P : mP D cl (mReg ad) ci dA dL ad s.heap F Ar H locs) (hl : lv_has ls 3 [(0, .ref (ad 0)), (2, .int y2_16)]) (hw : wm_text_J94 F Ar y2_16 z0_16 Kh26_4 Q) (hKh26_4 : ∀ (F_ : tF) (Ar_ : tA) (w1_ : Int32) (w2_ : Int32) (H : Heap) (locs : List Loc) (ls : Array Slot), mP D cl (mReg ad) ci dA dL ad s.heap F_ Ar_ H locs → lv_has ls 3 [(0, .ref (ad 0)), (1, .int w1_), (2, .int w2_)] → Kh26_4 F_ Ar_ w1_ w2_ → W p l e ({ frames := 4, cells := 0, slots := 0, locals := 92 }) s m args below meth c H locs 0 0 (MQ below (mQi D cl ci dA dL ad Q) args s 0 0 (mReg ad)) (F0 m 26 ls [])) : W p l e ({ frames := 4, cells := 0, slots := 0, locals := 92 }) s m args below meth c H locs 0 0 (MQ below (mQi D cl ci dA dL ad Q) args s 0 0 (mReg ad)) (F0 m 94 ls [.int z0_16]) := by
  obtain ⟨hx, hb, hml, hown, hts, -, -, hlk⟩ := id X
  have S : CallFix p m c _ _ s args lw_all RX7 := ⟨hx, hb, hml, hown, hts⟩
  refine lv_istore_n (lv' := [(1, .int z0_16), (0, .ref (ad 0)), (2, .int y2_16)]) hx hb dX7_text_94 rfl hl (by decide) rfl (fun ls hl => ?_)
  refine lv_iinc (v := (y2_16 + 1)) (lv' := [(2, .int (y2_16 + 1)), (1, .int z0_16), (0, .ref (ad 0))]) hx hb dX7_text_95 hl (k := 2) rfl rfl (by decide) rfl (fun ls hl => ?_)
  refine lv_goto (tgt := 26) hx hb dX7_text_98 (by decide) ?_
  exact hKh26_4 _ _ _ _ _ _ _ P (lv_sub hl [2, 1, 0] rfl) hw
def wm_text_J93 (F : tF) (Ar : tA) (y2_15 : Int32) (Kh26_4 : tF → tA → Int32 → Int32 → Prop) (Q : Int32 → tF → tA → Prop) : Prop :=
  (wm_text_J94 F Ar y2_15 0 Kh26_4 Q)
set_option maxHeartbeats 4000000 in
theorem kwm_text_J93 {Q : Int32 → tF → tA → Prop} (X : mCx p s m args meth c cX7_text 3 D cl ci dA dL) (hr : meth.sig.returnType = (some .int)) {F : tF} {Ar : tA} (y2_15 : Int32) (Kh26_4 : tF → tA → Int32 → Int32 → Prop) {H : Heap} {locs : List Loc} {ls : Array Slot} (P : mP D cl (mReg ad) ci dA dL ad s.heap F Ar H locs) (hl : lv_has ls 3 [(0, .ref (ad 0)), (2, .int y2_15)]) (hw : wm_text_J93 F Ar y2_15 Kh26_4 Q) (hKh26_4 : ∀ (F_ : tF) (Ar_ : tA) (w1_ : Int32) (w2_ : Int32) (H : Heap) (locs : List Loc) (ls : Array Slot), mP D cl (mReg ad) ci dA dL ad s.heap F_ Ar_ H locs → lv_has ls 3 [(0, .ref (ad 0)), (1, .int w1_), (2, .int w2_)] → Kh26_4 F_ Ar_ w1_ w2_ → W p l e ({ frames := 4, cells := 0, slots := 0, locals := 92 }) s m args below meth c H locs 0 0 (MQ below (mQi D cl ci dA dL ad Q) args s 0 0 (mReg ad)) (F0 m 26 ls [])) : W p l e ({ frames := 4, cells := 0, slots := 0, locals := 92 }) s m args below meth c H locs 0 0 (MQ below (mQi D cl ci dA dL ad Q) args s 0 0 (mReg ad)) (F0 m 93 ls []) := by
  obtain ⟨hx, hb, hml, hown, hts, -, -, hlk⟩ := id X
  have S : CallFix p m c _ _ s args lw_all RX7 := ⟨hx, hb, hml, hown, hts⟩
  refine lv_iconst (v := 0) hx hb dX7_text_93 (by decide) ?_
  exact kwm_text_J94 X hr _ _ _ P (lv_sub hl [0, 1] rfl) hw hKh26_4
def wm_text_J60 (F : tF) (Ar : tA) (y2_12 : Int32) (z0_12 : Int32) (Kh26_4 : tF → tA → Int32 → Int32 → Prop) (Q : Int32 → tF → tA → Prop) : Prop :=
  vp_in ((4 * (F 16)) + y2_12) 24 ∧ ∀ Ar_13 : tA, Ar_13 = aset Ar 15 ((4 * (F 16)) + y2_12).toNatClampNeg (F 37) → ((z0_12 = 0 → (wm_text_J93 F Ar_13 y2_12 Kh26_4 Q)) ∧ (¬ z0_12 = 0 → wm_eRead F Ar_13 (fun r_17 F_18 Ar_19 => ((r_17 = 0 → (wm_text_J93 F_18 Ar_19 y2_12 Kh26_4 Q)) ∧ (¬ r_17 = 0 → (wm_text_J94 F_18 Ar_19 y2_12 1 Kh26_4 Q))))))
set_option maxHeartbeats 4000000 in
theorem kwm_text_J60 {Q : Int32 → tF → tA → Prop} (X : mCx p s m args meth c cX7_text 3 D cl ci dA dL) (hr : meth.sig.returnType = (some .int)) {F : tF} {Ar : tA} (y2_12 : Int32) (z0_12 : Int32) (Kh26_4 : tF → tA → Int32 → Int32 → Prop) {H : Heap} {locs : List Loc} {ls : Array Slot} (P : mP D cl (mReg ad) ci dA dL ad s.heap F Ar H locs) (hl : lv_has ls 3 [(0, .ref (ad 0)), (2, .int y2_12)]) (hw : wm_text_J60 F Ar y2_12 z0_12 Kh26_4 Q) (hKh26_4 : ∀ (F_ : tF) (Ar_ : tA) (w1_ : Int32) (w2_ : Int32) (H : Heap) (locs : List Loc) (ls : Array Slot), mP D cl (mReg ad) ci dA dL ad s.heap F_ Ar_ H locs → lv_has ls 3 [(0, .ref (ad 0)), (1, .int w1_), (2, .int w2_)] → Kh26_4 F_ Ar_ w1_ w2_ → W p l e ({ frames := 4, cells := 0, slots := 0, locals := 92 }) s m args below meth c H locs 0 0 (MQ below (mQi D cl ci dA dL ad Q) args s 0 0 (mReg ad)) (F0 m 26 ls [])) : W p l e ({ frames := 4, cells := 0, slots := 0, locals := 92 }) s m args below meth c H locs 0 0 (MQ below (mQi D cl ci dA dL ad Q) args s 0 0 (mReg ad)) (F0 m 60 ls [.int z0_12]) := by
  obtain ⟨hx, hb, hml, hown, hts, -, -, hlk⟩ := id X
  have S : CallFix p m c _ _ s args lw_all RX7 := ⟨hx, hb, hml, hown, hts⟩
  refine lv_istore_n (lv' := [(1, .int z0_12), (0, .ref (ad 0)), (2, .int y2_12)]) hx hb dX7_text_60 rfl hl (by decide) rfl (fun ls hl => ?_)
  refine lv_aload_n hx hb dX7_text_61 rfl (lv_at hl 1 rfl) ?_
  refine mg_starts X P dX7_text_62 ?_
  refine lv_iconst (v := 4) hx hb dX7_text_65 (by decide) ?_
  refine lv_aload_n hx hb dX7_text_66 rfl (lv_at hl 1 rfl) ?_
  refine mg_texts X P dX7_text_67 ?_
  refine lv_imul hx hb dX7_text_70 ?_
  refine lv_iload_n hx hb dX7_text_71 rfl (lv_at hl 2 rfl) ?_
  refine lv_iadd hx hb dX7_text_72 ?_
  refine lv_aload_n hx hb dX7_text_73 rfl (lv_at hl 1 rfl) ?_
  refine mg_out X P dX7_text_74 ?_
  refine m_iast X P 15 rfl (by decide) hw.1 dX7_text_77 (fun Ar_13 H locs eAr_13 P => ?_)
  replace hw := hw.2
  replace hw := hw Ar_13 eAr_13
  refine lv_iload_n hx hb dX7_text_78 rfl (lv_at hl 0 rfl) ?_
  refine lv_if_eq (tgt := 93) hx hb dX7_text_79 (by decide) (fun c_14 => ?_) (fun c_14 => ?_)
  · replace hw := hw.1 c_14
    exact kwm_text_J93 X hr _ _ P (lv_sub hl [1, 2] rfl) hw hKh26_4
  · replace hw := hw.2 c_14
    refine lv_aload_n hx hb dX7_text_82 rfl (lv_at hl 1 rfl) ?_
    refine cwm_eRead X P hw ⟨Nat.le_of_ble_eq_true rfl, Nat.le_of_ble_eq_true rfl⟩ hl.1 (Nat.le_of_ble_eq_true rfl) dX7_text_83 (fun r_17 F_18 Ar_19 H locs hw P => ?_)
    refine lv_if_eq (tgt := 93) hx hb dX7_text_86 (by decide) (fun c_20 => ?_) (fun c_20 => ?_)
    · replace hw := hw.1 c_20
      exact kwm_text_J93 X hr _ _ P (lv_sub hl [1, 2] rfl) hw hKh26_4
    · replace hw := hw.2 c_20
      refine lv_iconst (v := 1) hx hb dX7_text_89 (by decide) ?_
      refine lv_goto (tgt := 94) hx hb dX7_text_90 (by decide) ?_
      exact kwm_text_J94 X hr _ _ _ P (lv_sub hl [1, 2] rfl) hw hKh26_4
def wm_text_J59 (F : tF) (Ar : tA) (y2_11 : Int32) (Kh26_4 : tF → tA → Int32 → Int32 → Prop) (Q : Int32 → tF → tA → Prop) : Prop :=
  (wm_text_J60 F Ar y2_11 0 Kh26_4 Q)
set_option maxHeartbeats 4000000 in
theorem kwm_text_J59 {Q : Int32 → tF → tA → Prop} (X : mCx p s m args meth c cX7_text 3 D cl ci dA dL) (hr : meth.sig.returnType = (some .int)) {F : tF} {Ar : tA} (y2_11 : Int32) (Kh26_4 : tF → tA → Int32 → Int32 → Prop) {H : Heap} {locs : List Loc} {ls : Array Slot} (P : mP D cl (mReg ad) ci dA dL ad s.heap F Ar H locs) (hl : lv_has ls 3 [(0, .ref (ad 0)), (2, .int y2_11)]) (hw : wm_text_J59 F Ar y2_11 Kh26_4 Q) (hKh26_4 : ∀ (F_ : tF) (Ar_ : tA) (w1_ : Int32) (w2_ : Int32) (H : Heap) (locs : List Loc) (ls : Array Slot), mP D cl (mReg ad) ci dA dL ad s.heap F_ Ar_ H locs → lv_has ls 3 [(0, .ref (ad 0)), (1, .int w1_), (2, .int w2_)] → Kh26_4 F_ Ar_ w1_ w2_ → W p l e ({ frames := 4, cells := 0, slots := 0, locals := 92 }) s m args below meth c H locs 0 0 (MQ below (mQi D cl ci dA dL ad Q) args s 0 0 (mReg ad)) (F0 m 26 ls [])) : W p l e ({ frames := 4, cells := 0, slots := 0, locals := 92 }) s m args below meth c H locs 0 0 (MQ below (mQi D cl ci dA dL ad Q) args s 0 0 (mReg ad)) (F0 m 59 ls []) := by
  obtain ⟨hx, hb, hml, hown, hts, -, -, hlk⟩ := id X
  have S : CallFix p m c _ _ s args lw_all RX7 := ⟨hx, hb, hml, hown, hts⟩
  refine lv_iconst (v := 0) hx hb dX7_text_59 (by decide) ?_
  exact kwm_text_J60 X hr _ _ _ P (lv_sub hl [0, 1] rfl) hw hKh26_4
def wm_text_L26 (Kx101_4 : tF → tA → Int32 → Prop) (Q : Int32 → tF → tA → Prop) : Nat → tF → tA → Int32 → Int32 → Prop
  | 0, _, _, _, _ => False
  | f26 + 1, F, Ar, y1_4, y2_4 =>
    (((2 : Int32) ≤ y2_4 → (Kx101_4 F Ar y1_4)) ∧ (¬ (2 : Int32) ≤ y2_4 → ((y1_4 = 0 → (Kx101_4 F Ar y1_4)) ∧ (¬ y1_4 = 0 → wm_next F Ar (fun F_8 Ar_9 => ((¬ (F_8 31) = 3 → (wm_text_J59 F_8 Ar_9 y2_4 (wm_text_L26 Kx101_4 Q f26) Q)) ∧ ((F_8 31) = 3 → ((¬ (F_8 32) = y2_4 → (wm_text_J59 F_8 Ar_9 y2_4 (wm_text_L26 Kx101_4 Q f26) Q)) ∧ ((F_8 32) = y2_4 → (wm_text_J60 F_8 Ar_9 y2_4 1 (wm_text_L26 Kx101_4 Q f26) Q))))))))))
set_option maxHeartbeats 4000000 in
theorem kwm_text_L26 {Q : Int32 → tF → tA → Prop} (X : mCx p s m args meth c cX7_text 3 D cl ci dA dL) (hr : meth.sig.returnType = (some .int)) (Kx101_4 : tF → tA → Int32 → Prop) (hKx101_4 : ∀ (F_ : tF) (Ar_ : tA) (w1_ : Int32) (H : Heap) (locs : List Loc) (ls : Array Slot), mP D cl (mReg ad) ci dA dL ad s.heap F_ Ar_ H locs → lv_has ls 3 [(0, .ref (ad 0)), (1, .int w1_)] → Kx101_4 F_ Ar_ w1_ → W p l e ({ frames := 4, cells := 0, slots := 0, locals := 92 }) s m args below meth c H locs 0 0 (MQ below (mQi D cl ci dA dL ad Q) args s 0 0 (mReg ad)) (F0 m 101 ls [])) : ∀ (n : Nat) (F : tF) (Ar : tA) (y1_4 : Int32) (y2_4 : Int32) (H : Heap) (locs : List Loc) (ls : Array Slot), mP D cl (mReg ad) ci dA dL ad s.heap F Ar H locs → lv_has ls 3 [(0, .ref (ad 0)), (1, .int y1_4), (2, .int y2_4)] → wm_text_L26 Kx101_4 Q n F Ar y1_4 y2_4 → W p l e ({ frames := 4, cells := 0, slots := 0, locals := 92 }) s m args below meth c H locs 0 0 (MQ below (mQi D cl ci dA dL ad Q) args s 0 0 (mReg ad)) (F0 m 26 ls []) := by
  obtain ⟨hx, hb, hml, hown, hts, -, -, hlk⟩ := id X
  have S : CallFix p m c _ _ s args lw_all RX7 := ⟨hx, hb, hml, hown, hts⟩
  intro n
  induction n with
  | zero =>
    intro F Ar y1_4 y2_4 H locs ls P hl hw
    exact hw.elim
  | succ n ih =>
    intro F Ar y1_4 y2_4 H locs ls P hl hw
    have hKh26_4 := ih
    refine lv_iload_n hx hb dX7_text_26 rfl (lv_at hl 2 rfl) ?_
    refine lv_iconst (v := 2) hx hb dX7_text_27 (by decide) ?_
    refine lv_icmp_ge (tgt := 101) hx hb dX7_text_28 (by decide) (fun c_5 => ?_) (fun c_5 => ?_)
    · replace hw := hw.1 c_5
      exact hKx101_4 _ _ _ _ _ _ P (lv_sub hl [0, 1] rfl) hw
    · replace hw := hw.2 c_5
      refine lv_iload_n hx hb dX7_text_31 rfl (lv_at hl 1 rfl) ?_
      refine lv_if_eq (tgt := 101) hx hb dX7_text_32 (by decide) (fun c_6 => ?_) (fun c_6 => ?_)
      · replace hw := hw.1 c_6
        exact hKx101_4 _ _ _ _ _ _ P (lv_sub hl [0, 1] rfl) hw
      · replace hw := hw.2 c_6
        refine lv_aload_n hx hb dX7_text_35 rfl (lv_at hl 0 rfl) ?_
        refine cwm_next X P hw ⟨Nat.le_of_ble_eq_true rfl, Nat.le_of_ble_eq_true rfl⟩ hl.1 (Nat.le_of_ble_eq_true rfl) dX7_text_36 (fun F_8 Ar_9 H locs hw P => ?_)
        refine lv_aload_n hx hb dX7_text_39 rfl (lv_at hl 0 rfl) ?_
        refine mg_token X P dX7_text_40 ?_
        refine lv_iconst (v := 3) hx hb dX7_text_43 (by decide) ?_
        refine lv_icmp_ne (tgt := 59) hx hb dX7_text_44 (by decide) (fun c_10 => ?_) (fun c_10 => ?_)
        · replace hw := hw.1 c_10
          exact kwm_text_J59 X hr _ _ P (lv_sub hl [0, 2] rfl) hw hKh26_4
        · replace hw := hw.2 c_10
          refine lv_aload_n hx hb dX7_text_47 rfl (lv_at hl 0 rfl) ?_
          refine mg_value X P dX7_text_48 ?_
          refine lv_iload_n hx hb dX7_text_51 rfl (lv_at hl 2 rfl) ?_
          refine lv_icmp_ne (tgt := 59) hx hb dX7_text_52 (by decide) (fun c_21 => ?_) (fun c_21 => ?_)
          · replace hw := hw.1 c_21
            exact kwm_text_J59 X hr _ _ P (lv_sub hl [0, 2] rfl) hw hKh26_4
          · replace hw := hw.2 c_21
            refine lv_iconst (v := 1) hx hb dX7_text_55 (by decide) ?_
            refine lv_goto (tgt := 60) hx hb dX7_text_56 (by decide) ?_
            exact kwm_text_J60 X hr _ _ _ P (lv_sub hl [0, 2] rfl) hw hKh26_4
def wm_text_J122 (F : tF) (Ar : tA) (y1_26 : Int32) (Q : Int32 → tF → tA → Prop) : Prop :=
  vp_in ((4 * (F 16)) + 2) 24 ∧ ∀ Ar_27 : tA, Ar_27 = aset Ar 15 ((4 * (F 16)) + 2).toNatClampNeg (F 37) → ∀ F_28 : tF, F_28 = upd F 13 0 → ((¬ y1_26 = 0 → ∀ F_30 : tF, F_30 = upd F_28 16 ((F_28 16) + 1) → Q ((F_30 16) - 1) F_30 Ar_27) ∧ (y1_26 = 0 → Q ((-100) - (F_28 30)) F_28 Ar_27))
set_option maxHeartbeats 4000000 in
theorem kwm_text_J122 {Q : Int32 → tF → tA → Prop} (X : mCx p s m args meth c cX7_text 3 D cl ci dA dL) (hr : meth.sig.returnType = (some .int)) {F : tF} {Ar : tA} (y1_26 : Int32) {H : Heap} {locs : List Loc} {ls : Array Slot} (P : mP D cl (mReg ad) ci dA dL ad s.heap F Ar H locs) (hl : lv_has ls 3 [(0, .ref (ad 0)), (1, .int y1_26)]) (hw : wm_text_J122 F Ar y1_26 Q) : W p l e ({ frames := 4, cells := 0, slots := 0, locals := 92 }) s m args below meth c H locs 0 0 (MQ below (mQi D cl ci dA dL ad Q) args s 0 0 (mReg ad)) (F0 m 122 ls []) := by
  obtain ⟨hx, hb, hml, hown, hts, -, -, hlk⟩ := id X
  have S : CallFix p m c _ _ s args lw_all RX7 := ⟨hx, hb, hml, hown, hts⟩
  refine lv_aload_n hx hb dX7_text_122 rfl (lv_at hl 0 rfl) ?_
  refine mg_starts X P dX7_text_123 ?_
  refine lv_iconst (v := 4) hx hb dX7_text_126 (by decide) ?_
  refine lv_aload_n hx hb dX7_text_127 rfl (lv_at hl 0 rfl) ?_
  refine mg_texts X P dX7_text_128 ?_
  refine lv_imul hx hb dX7_text_131 ?_
  refine lv_iconst (v := 2) hx hb dX7_text_132 (by decide) ?_
  refine lv_iadd hx hb dX7_text_133 ?_
  refine lv_aload_n hx hb dX7_text_134 rfl (lv_at hl 0 rfl) ?_
  refine mg_out X P dX7_text_135 ?_
  refine m_iast X P 15 rfl (by decide) hw.1 dX7_text_138 (fun Ar_27 H locs eAr_27 P => ?_)
  replace hw := hw.2
  replace hw := hw Ar_27 eAr_27
  refine lv_aload_n hx hb dX7_text_139 rfl (lv_at hl 0 rfl) ?_
  refine lv_iconst (v := 0) hx hb dX7_text_140 (by decide) ?_
  refine mp_taped X P dX7_text_141 (fun F_28 H locs eF_28 P => ?_)
  replace hw := hw F_28 eF_28
  refine lv_iload_n hx hb dX7_text_144 rfl (lv_at hl 1 rfl) ?_
  refine lv_if_ne (tgt := 156) hx hb dX7_text_145 (by decide) (fun c_29 => ?_) (fun c_29 => ?_)
  · replace hw := hw.1 c_29
    refine lv_aload_n hx hb dX7_text_156 rfl (lv_at hl 0 rfl) ?_
    refine lv_dup hx hb dX7_text_157 rfl ?_
    refine mg_texts X P dX7_text_158 ?_
    refine lv_iconst (v := 1) hx hb dX7_text_161 (by decide) ?_
    refine lv_iadd hx hb dX7_text_162 ?_
    refine mp_texts X P dX7_text_163 (fun F_30 H locs eF_30 P => ?_)
    replace hw := hw F_30 eF_30
    refine lv_aload_n hx hb dX7_text_166 rfl (lv_at hl 0 rfl) ?_
    refine mg_texts X P dX7_text_167 ?_
    refine lv_iconst (v := 1) hx hb dX7_text_170 (by decide) ?_
    refine lv_isub hx hb dX7_text_171 ?_
    exact m_iret X P hr hw dX7_text_172
  · replace hw := hw.2 c_29
    refine lv_bipush (v := (-100)) hx hb dX7_text_148 (by decide) ?_
    refine lv_aload_n hx hb dX7_text_150 rfl (lv_at hl 0 rfl) ?_
    refine mg_begun X P dX7_text_151 ?_
    refine lv_isub hx hb dX7_text_154 ?_
    exact m_iret X P hr hw dX7_text_155
def wm_text_J121 (F : tF) (Ar : tA) (z0_35 : Int32) (Q : Int32 → tF → tA → Prop) : Prop :=
  (wm_text_J122 F Ar z0_35 Q)
set_option maxHeartbeats 4000000 in
theorem kwm_text_J121 {Q : Int32 → tF → tA → Prop} (X : mCx p s m args meth c cX7_text 3 D cl ci dA dL) (hr : meth.sig.returnType = (some .int)) {F : tF} {Ar : tA} (z0_35 : Int32) {H : Heap} {locs : List Loc} {ls : Array Slot} (P : mP D cl (mReg ad) ci dA dL ad s.heap F Ar H locs) (hl : lv_has ls 3 [(0, .ref (ad 0))]) (hw : wm_text_J121 F Ar z0_35 Q) : W p l e ({ frames := 4, cells := 0, slots := 0, locals := 92 }) s m args below meth c H locs 0 0 (MQ below (mQi D cl ci dA dL ad Q) args s 0 0 (mReg ad)) (F0 m 121 ls [.int z0_35]) := by
  obtain ⟨hx, hb, hml, hown, hts, -, -, hlk⟩ := id X
  have S : CallFix p m c _ _ s args lw_all RX7 := ⟨hx, hb, hml, hown, hts⟩
  refine lv_istore_n (lv' := [(1, .int z0_35), (0, .ref (ad 0))]) hx hb dX7_text_121 rfl hl (by decide) rfl (fun ls hl => ?_)
  exact kwm_text_J122 X hr _ P (lv_sub hl [1, 0] rfl) hw
def wm_text (F : tF) (Ar : tA) (Q : Int32 → tF → tA → Prop) : Prop :=
  ((¬ (F 16) = 6 → ∀ F_2 : tF, F_2 = upd F 29 0 → ∀ F_3 : tF, F_3 = upd F_2 37 0 → (∃ n26, wm_text_L26 (fun (F_22 : tF) (Ar_23 : tA) (x1_24 : Int32) => ((x1_24 = 0 → (wm_text_J122 F_22 Ar_23 x1_24 Q)) ∧ (¬ x1_24 = 0 → wm_next F_22 Ar_23 (fun F_32 Ar_33 => ((¬ (F_32 31) = 0 → (wm_text_J121 F_32 Ar_33 0 Q)) ∧ ((F_32 31) = 0 → (wm_text_J121 F_32 Ar_33 1 Q))))))) Q n26 F_3 Ar 1 0)) ∧ ((F 16) = 6 → Q (-4) F Ar))
set_option maxHeartbeats 4000000 in
theorem twm_text (l : Launch) (D : va_G) (cl : List vw_C) (ci : Nat) (dA dL : ClassId) (ad : Nat → Nat) (F : tF) (Ar : tA) (Q : Int32 → tF → tA → Prop) (hw : wm_text F Ar  Q) : Met l yX7_text (ws_ yX7_text cX7_text 3 (some .int)) ({ frames := 4, cells := 0, slots := 0, locals := 92 }) (mPc D cl ci dA dL ad F Ar []) (mQi D cl ci dA dL ad Q) 0 0 (mReg ad) := by
  refine m_entry (by decide) rfl (Nat.le_of_ble_eq_true rfl) ?_
  intro p e s m below meth c ls X hr P hl
  obtain ⟨hx, hb, hml, hown, hts, -, -, hlk⟩ := id X
  have S : CallFix p m c _ _ s _ lw_all RX7 := ⟨hx, hb, hml, hown, hts⟩
  have hl : lv_has ls 3 [(0, .ref (ad 0))] := hl
  refine lv_aload_n hx hb dX7_text_0 rfl (lv_at hl 0 rfl) ?_
  refine mg_texts X P dX7_text_1 ?_
  refine lv_bipush (v := 6) hx hb dX7_text_4 (by decide) ?_
  refine lv_icmp_ne (tgt := 12) hx hb dX7_text_6 (by decide) (fun c_1 => ?_) (fun c_1 => ?_)
  · replace hw := hw.1 c_1
    refine lv_aload_n hx hb dX7_text_12 rfl (lv_at hl 0 rfl) ?_
    refine lv_iconst (v := 0) hx hb dX7_text_13 (by decide) ?_
    refine mp_at X P dX7_text_14 (fun F_2 H locs eF_2 P => ?_)
    replace hw := hw F_2 eF_2
    refine lv_aload_n hx hb dX7_text_17 rfl (lv_at hl 0 rfl) ?_
    refine lv_iconst (v := 0) hx hb dX7_text_18 (by decide) ?_
    refine mp_out X P dX7_text_19 (fun F_3 H locs eF_3 P => ?_)
    replace hw := hw F_3 eF_3
    refine lv_iconst (v := 1) hx hb dX7_text_22 (by decide) ?_
    refine lv_istore_n (lv' := [(1, .int 1), (0, .ref (ad 0))]) hx hb dX7_text_23 rfl hl (by decide) rfl (fun ls hl => ?_)
    refine lv_iconst (v := 0) hx hb dX7_text_24 (by decide) ?_
    refine lv_istore_n (lv' := [(2, .int 0), (1, .int 1), (0, .ref (ad 0))]) hx hb dX7_text_25 rfl hl (by decide) rfl (fun ls hl => ?_)
    obtain ⟨n_36, hw⟩ := hw
    refine kwm_text_L26 X hr _   ?_ n_36 _ _ _ _ _ _ _ P (lv_sub hl [2, 1, 0] rfl) hw
    · intro F_22 Ar_23 x1_24 H locs ls P hl hw
      refine lv_iload_n hx hb dX7_text_101 rfl (lv_at hl 1 rfl) ?_
      refine lv_if_eq (tgt := 122) hx hb dX7_text_102 (by decide) (fun c_25 => ?_) (fun c_25 => ?_)
      · replace hw := hw.1 c_25
        exact kwm_text_J122 X hr _ P (lv_sub hl [0, 1] rfl) hw
      · replace hw := hw.2 c_25
        refine lv_aload_n hx hb dX7_text_105 rfl (lv_at hl 0 rfl) ?_
        refine cwm_next X P hw ⟨Nat.le_of_ble_eq_true rfl, Nat.le_of_ble_eq_true rfl⟩ hl.1 (Nat.le_of_ble_eq_true rfl) dX7_text_106 (fun F_32 Ar_33 H locs hw P => ?_)
        refine lv_aload_n hx hb dX7_text_109 rfl (lv_at hl 0 rfl) ?_
        refine mg_token X P dX7_text_110 ?_
        refine lv_if_ne (tgt := 120) hx hb dX7_text_113 (by decide) (fun c_34 => ?_) (fun c_34 => ?_)
        · replace hw := hw.1 c_34
          refine lv_iconst (v := 0) hx hb dX7_text_120 (by decide) ?_
          exact kwm_text_J121 X hr _ P (lv_sub hl [0] rfl) hw
        · replace hw := hw.2 c_34
          refine lv_iconst (v := 1) hx hb dX7_text_116 (by decide) ?_
          refine lv_goto (tgt := 121) hx hb dX7_text_117 (by decide) ?_
          exact kwm_text_J121 X hr _ P (lv_sub hl [0] rfl) hw
  · replace hw := hw.2 c_1
    refine lv_bipush (v := (-4)) hx hb dX7_text_9 (by decide) ?_
    exact m_iret X P hr hw dX7_text_11
-- force
def wm_force (F : tF) (Ar : tA) (a1 : Int32) (Q : Int32 → tF → tA → Prop) : Prop :=
  wm_in a1 0 ((F 16) - 1) (fun r_1 => ((¬ r_1 = 0 → ∀ x2_3 : Int32, x2_3 = (F 17) → ∀ F_4 : tF, F_4 = upd F 17 a1 → Q x2_3 F_4 Ar) ∧ (r_1 = 0 → Q (-2) F Ar)))
set_option maxHeartbeats 4000000 in
theorem twm_force (l : Launch) (D : va_G) (cl : List vw_C) (ci : Nat) (dA dL : ClassId) (ad : Nat → Nat) (F : tF) (Ar : tA) (a1 : Int32) (Q : Int32 → tF → tA → Prop) (hw : wm_force F Ar a1 Q) : Met l yX7_force (ws_ yX7_force cX7_force 3 (some .int)) ({ frames := 1, cells := 0, slots := 0, locals := 22 }) (mPc D cl ci dA dL ad F Ar [.int a1]) (mQi D cl ci dA dL ad Q) 0 0 (mReg ad) := by
  refine m_entry (by decide) rfl (Nat.le_of_ble_eq_true rfl) ?_
  intro p e s m below meth c ls X hr P hl
  obtain ⟨hx, hb, hml, hown, hts, -, -, hlk⟩ := id X
  have S : CallFix p m c _ _ s _ lw_all RX7 := ⟨hx, hb, hml, hown, hts⟩
  have hl : lv_has ls 3 [(0, .ref (ad 0)), (1, .int a1)] := hl
  refine lv_iload_n hx hb dX7_force_0 rfl (lv_at hl 1 rfl) ?_
  refine lv_iconst (v := 0) hx hb dX7_force_1 (by decide) ?_
  refine lv_aload_n hx hb dX7_force_2 rfl (lv_at hl 0 rfl) ?_
  refine mg_texts X P dX7_force_3 ?_
  refine lv_iconst (v := 1) hx hb dX7_force_6 (by decide) ?_
  refine lv_isub hx hb dX7_force_7 ?_
  refine cwm_in S hw ⟨Nat.le_of_ble_eq_true rfl, Nat.le_of_ble_eq_true rfl⟩ hl.1 (Nat.le_of_ble_eq_true rfl) dX7_force_8 (fun r_1 hw => ?_)
  refine lv_if_ne (tgt := 17) hx hb dX7_force_11 (by decide) (fun c_2 => ?_) (fun c_2 => ?_)
  · replace hw := hw.1 c_2
    refine lv_aload_n hx hb dX7_force_17 rfl (lv_at hl 0 rfl) ?_
    refine mg_rule X P dX7_force_18 ?_
    refine lv_topi (fun x2_3 ex2_3 => ?_)
    replace hw := hw x2_3 ex2_3
    refine lv_istore_n (lv' := [(2, .int x2_3), (0, .ref (ad 0)), (1, .int a1)]) hx hb dX7_force_21 rfl hl (by decide) rfl (fun ls hl => ?_)
    refine lv_aload_n hx hb dX7_force_22 rfl (lv_at hl 1 rfl) ?_
    refine lv_iload_n hx hb dX7_force_23 rfl (lv_at hl 2 rfl) ?_
    refine mp_rule X P dX7_force_24 (fun F_4 H locs eF_4 P => ?_)
    replace hw := hw F_4 eF_4
    refine lv_iload_n hx hb dX7_force_27 rfl (lv_at hl 0 rfl) ?_
    exact m_iret X P hr hw dX7_force_28
  · replace hw := hw.2 c_2
    refine lv_bipush (v := (-2)) hx hb dX7_force_14 (by decide) ?_
    exact m_iret X P hr hw dX7_force_16
-- isChoice
def wm_isChoice (a1 : Int32) (Q : Int32 → Prop) : Prop :=
  wm_in a1 0 48 (fun r_1 => (r_1 = 0 ∨ r_1 = 1) ∧ Q r_1)
set_option maxHeartbeats 4000000 in
theorem twm_isChoice (l : Launch) (a1 : Int32) (Q : Int32 → Prop) (hw : wm_isChoice a1 Q) : Met l yX7_isChoice (ws_ yX7_isChoice cX7_isChoice 1 (some .boolean)) ({ frames := 1, cells := 0, slots := 0, locals := 22 }) (va_Pc [.int a1] (fun _ => True)) (vp_Si Q) 0 0 (fun _ => False) := by
  refine s_entry (by decide) (Nat.le_of_ble_eq_true rfl) ?_
  intro p e s m below meth c ls hx hb hml hown hts hlk hr hl
  have hown : s.vm.findClass RX7 = some m.cls := hown
  have X : sCx p s m _ meth c cX7_isChoice 1 RX7 := ⟨hx, hb, hml, hown, hts, hlk⟩
  have S : CallFix p m c _ _ s _ lw_all RX7 := ⟨hx, hb, hml, hown, hts⟩
  have hl : lv_has ls 1 [(0, .int a1)] := hl
  refine lv_iload_n hx hb dX7_isChoice_0 rfl (lv_at hl 0 rfl) ?_
  refine lv_iconst (v := 0) hx hb dX7_isChoice_1 (by decide) ?_
  refine lv_bipush (v := 48) hx hb dX7_isChoice_2 (by decide) ?_
  refine cwm_in S hw ⟨Nat.le_of_ble_eq_true rfl, Nat.le_of_ble_eq_true rfl⟩ hl.1 (Nat.le_of_ble_eq_true rfl) dX7_isChoice_4 (fun r_1 hw => ?_)
  exact r_zret hx hb hlk hr hw.1 hw.2 dX7_isChoice_7
theorem cwm_isChoice {Q : Int32 → Prop} {a1 : Int32} {Z : State → Prop} {H : Heap} {locs : List Loc} (S : CallFix p m c cc nL s args lw_all RX7) (hw : wm_isChoice a1 Q) (hR : 1 + 1 ≤ R.frames ∧ 8 + (1 + 11) + 22 ≤ R.locals) (hls : ls.size = nL) (hst : (rest.map fun v => v.category).sum ≤ 8) (hdg : decode cc pc = .ok (.invokestatic 220, 3)) (kk : ∀ r, Q r → W p l e R s m args below meth c H locs 0 0 Z (F0 m (pc + 3) ls (.int r :: rest))) : W p l e R s m args below meth c H locs 0 0 Z (F0 m pc ls (.int a1 :: rest)) :=
  vp_callSi (s_runR (as := [.int a1]) S (twm_isChoice l a1 Q hw) (va_cwS 1 S.2.2.2.2 (lw_S q1579 q1580 q88 q1581) rfl rfl rfl (by decide +kernel) hR) rfl hls hst hdg ⟨Nat.zero_le _, Nat.zero_le _⟩) kk
-- way
def wm_way_L56 (F : tF) (Ar : tA) (y1_8 : Int32) (y2_8 : Int32) (Kx91_8 : Int32 → Prop) (Q : Int32 → tF → tA → Prop) : Nat → Int32 → Int32 → Prop
  | 0, _, _ => False
  | f56 + 1, y3_8, y4_8 =>
    (((F 6) ≤ y4_8 → (Kx91_8 y3_8)) ∧ (¬ (F 6) ≤ y4_8 → ((y3_8 = 0 → (Kx91_8 y3_8)) ∧ (¬ y3_8 = 0 → vp_in ((40 * y2_8) + y4_8) 160 ∧ wm_isChoice (Ar 28 ((40 * y2_8) + y4_8).toNatClampNeg) (fun r_11 => ((wm_way_L56 F Ar y1_8 y2_8 Kx91_8 Q f56) r_11 (y4_8 + 1)))))))
set_option maxHeartbeats 4000000 in
theorem kwm_way_L56 {Q : Int32 → tF → tA → Prop} (X : mCx p s m args meth c cX7_way 5 D cl ci dA dL) (hr : meth.sig.returnType = (some .int)) (F : tF) (Ar : tA) (y1_8 : Int32) (y2_8 : Int32) (Kx91_8 : Int32 → Prop) (hKx91_8 : ∀ (w3_ : Int32) (H : Heap) (locs : List Loc) (ls : Array Slot), mP D cl (mReg ad) ci dA dL ad s.heap F Ar H locs → lv_has ls 5 [(0, .ref (ad 0)), (1, .int y1_8), (2, .int y2_8), (3, .int w3_)] → Kx91_8 w3_ → W p l e ({ frames := 2, cells := 0, slots := 0, locals := 42 }) s m args below meth c H locs 0 0 (MQ below (mQi D cl ci dA dL ad Q) args s 0 0 (mReg ad)) (F0 m 91 ls [])) : ∀ (n : Nat) (y3_8 : Int32) (y4_8 : Int32) (H : Heap) (locs : List Loc) (ls : Array Slot), mP D cl (mReg ad) ci dA dL ad s.heap F Ar H locs → lv_has ls 5 [(0, .ref (ad 0)), (1, .int y1_8), (2, .int y2_8), (3, .int y3_8), (4, .int y4_8)] → wm_way_L56 F Ar y1_8 y2_8 Kx91_8 Q n y3_8 y4_8 → W p l e ({ frames := 2, cells := 0, slots := 0, locals := 42 }) s m args below meth c H locs 0 0 (MQ below (mQi D cl ci dA dL ad Q) args s 0 0 (mReg ad)) (F0 m 56 ls []) := by
  obtain ⟨hx, hb, hml, hown, hts, -, -, hlk⟩ := id X
  have S : CallFix p m c _ _ s args lw_all RX7 := ⟨hx, hb, hml, hown, hts⟩
  intro n
  induction n with
  | zero =>
    intro y3_8 y4_8 H locs ls P hl hw
    exact hw.elim
  | succ n ih =>
    intro y3_8 y4_8 H locs ls P hl hw
    have hKh56_8 := ih
    refine lv_iload hx hb dX7_way_56 (lv_at hl 4 rfl) ?_
    refine lv_aload_n hx hb dX7_way_58 rfl (lv_at hl 0 rfl) ?_
    refine mg_carts X P dX7_way_59 ?_
    refine lv_icmp_ge (tgt := 91) hx hb dX7_way_62 (by decide) (fun c_9 => ?_) (fun c_9 => ?_)
    · replace hw := hw.1 c_9
      exact hKx91_8 _ _ _ _ P (lv_sub hl [0, 1, 2, 3] rfl) hw
    · replace hw := hw.2 c_9
      refine lv_iload_n hx hb dX7_way_65 rfl (lv_at hl 3 rfl) ?_
      refine lv_if_eq (tgt := 91) hx hb dX7_way_66 (by decide) (fun c_10 => ?_) (fun c_10 => ?_)
      · replace hw := hw.1 c_10
        exact hKx91_8 _ _ _ _ P (lv_sub hl [0, 1, 2, 3] rfl) hw
      · replace hw := hw.2 c_10
        refine lv_aload_n hx hb dX7_way_69 rfl (lv_at hl 0 rfl) ?_
        refine mg_cells X P dX7_way_70 ?_
        refine lv_bipush (v := 40) hx hb dX7_way_73 (by decide) ?_
        refine lv_iload_n hx hb dX7_way_75 rfl (lv_at hl 2 rfl) ?_
        refine lv_imul hx hb dX7_way_76 ?_
        refine lv_iload hx hb dX7_way_77 (lv_at hl 4 rfl) ?_
        refine lv_iadd hx hb dX7_way_79 ?_
        refine m_iald X P 28 rfl (by decide) hw.1 dX7_way_80 ?_
        replace hw := hw.2
        refine cwm_isChoice S hw ⟨Nat.le_of_ble_eq_true rfl, Nat.le_of_ble_eq_true rfl⟩ hl.1 (Nat.le_of_ble_eq_true rfl) dX7_way_81 (fun r_11 hw => ?_)
        refine lv_istore_n (lv' := [(3, .int r_11), (0, .ref (ad 0)), (1, .int y1_8), (2, .int y2_8), (4, .int y4_8)]) hx hb dX7_way_84 rfl hl (by decide) rfl (fun ls hl => ?_)
        refine lv_iinc (v := (y4_8 + 1)) (lv' := [(4, .int (y4_8 + 1)), (3, .int r_11), (0, .ref (ad 0)), (1, .int y1_8), (2, .int y2_8)]) hx hb dX7_way_85 hl (k := 4) rfl rfl (by decide) rfl (fun ls hl => ?_)
        refine lv_goto (tgt := 56) hx hb dX7_way_88 (by decide) ?_
        exact hKh56_8 _ _ _ _ _ P (lv_sub hl [2, 3, 4, 1, 0] rfl) hw
def wm_way_L136 (F : tF) (y2_17 : Int32) (Kx178_17 : tA → Prop) (Q : Int32 → tF → tA → Prop) : Nat → tA → Int32 → Prop
  | 0, _, _ => False
  | f136 + 1, Ar, y4_17 =>
    (((F 6) ≤ y4_17 → (Kx178_17 Ar)) ∧ (¬ (F 6) ≤ y4_17 → vp_in ((40 * y2_17) + y4_17) 160 ∧ vp_in ((16 * (F 8)) + y4_17) 128 ∧ ∀ Ar_19 : tA, Ar_19 = aset Ar 11 ((16 * (F 8)) + y4_17).toNatClampNeg (Ar 28 ((40 * y2_17) + y4_17).toNatClampNeg) → ((wm_way_L136 F y2_17 Kx178_17 Q f136) Ar_19 (y4_17 + 1))))
set_option maxHeartbeats 4000000 in
theorem kwm_way_L136 {Q : Int32 → tF → tA → Prop} (X : mCx p s m args meth c cX7_way 5 D cl ci dA dL) (hr : meth.sig.returnType = (some .int)) (F : tF) (y2_17 : Int32) (Kx178_17 : tA → Prop) (hKx178_17 : ∀ (Ar_ : tA) (H : Heap) (locs : List Loc) (ls : Array Slot), mP D cl (mReg ad) ci dA dL ad s.heap F Ar_ H locs → lv_has ls 5 [(0, .ref (ad 0))] → Kx178_17 Ar_ → W p l e ({ frames := 2, cells := 0, slots := 0, locals := 42 }) s m args below meth c H locs 0 0 (MQ below (mQi D cl ci dA dL ad Q) args s 0 0 (mReg ad)) (F0 m 178 ls [])) : ∀ (n : Nat) (Ar : tA) (y4_17 : Int32) (H : Heap) (locs : List Loc) (ls : Array Slot), mP D cl (mReg ad) ci dA dL ad s.heap F Ar H locs → lv_has ls 5 [(0, .ref (ad 0)), (2, .int y2_17), (4, .int y4_17)] → wm_way_L136 F y2_17 Kx178_17 Q n Ar y4_17 → W p l e ({ frames := 2, cells := 0, slots := 0, locals := 42 }) s m args below meth c H locs 0 0 (MQ below (mQi D cl ci dA dL ad Q) args s 0 0 (mReg ad)) (F0 m 136 ls []) := by
  obtain ⟨hx, hb, hml, hown, hts, -, -, hlk⟩ := id X
  have S : CallFix p m c _ _ s args lw_all RX7 := ⟨hx, hb, hml, hown, hts⟩
  intro n
  induction n with
  | zero =>
    intro Ar y4_17 H locs ls P hl hw
    exact hw.elim
  | succ n ih =>
    intro Ar y4_17 H locs ls P hl hw
    have hKh136_17 := ih
    refine lv_iload hx hb dX7_way_136 (lv_at hl 2 rfl) ?_
    refine lv_aload_n hx hb dX7_way_138 rfl (lv_at hl 0 rfl) ?_
    refine mg_carts X P dX7_way_139 ?_
    refine lv_icmp_ge (tgt := 178) hx hb dX7_way_142 (by decide) (fun c_18 => ?_) (fun c_18 => ?_)
    · replace hw := hw.1 c_18
      exact hKx178_17 _ _ _ _ P (lv_sub hl [0] rfl) hw
    · replace hw := hw.2 c_18
      refine lv_aload_n hx hb dX7_way_145 rfl (lv_at hl 0 rfl) ?_
      refine mg_choice X P dX7_way_146 ?_
      refine lv_bipush (v := 16) hx hb dX7_way_149 (by decide) ?_
      refine lv_aload_n hx hb dX7_way_151 rfl (lv_at hl 0 rfl) ?_
      refine mg_ways X P dX7_way_152 ?_
      refine lv_imul hx hb dX7_way_155 ?_
      refine lv_iload hx hb dX7_way_156 (lv_at hl 2 rfl) ?_
      refine lv_iadd hx hb dX7_way_158 ?_
      refine lv_aload_n hx hb dX7_way_159 rfl (lv_at hl 0 rfl) ?_
      refine mg_cells X P dX7_way_160 ?_
      refine lv_bipush (v := 40) hx hb dX7_way_163 (by decide) ?_
      refine lv_iload_n hx hb dX7_way_165 rfl (lv_at hl 1 rfl) ?_
      refine lv_imul hx hb dX7_way_166 ?_
      refine lv_iload hx hb dX7_way_167 (lv_at hl 2 rfl) ?_
      refine lv_iadd hx hb dX7_way_169 ?_
      refine m_iald X P 28 rfl (by decide) hw.1 dX7_way_170 ?_
      replace hw := hw.2
      refine m_iast X P 11 rfl (by decide) hw.1 dX7_way_171 (fun Ar_19 H locs eAr_19 P => ?_)
      replace hw := hw.2
      replace hw := hw Ar_19 eAr_19
      refine lv_iinc (v := (y4_17 + 1)) (lv' := [(4, .int (y4_17 + 1)), (0, .ref (ad 0)), (2, .int y2_17)]) hx hb dX7_way_172 hl (k := 2) rfl rfl (by decide) rfl (fun ls hl => ?_)
      refine lv_goto (tgt := 136) hx hb dX7_way_175 (by decide) ?_
      exact hKh136_17 _ _ _ _ _ P (lv_sub hl [1, 2, 0] rfl) hw
def wm_way_J52 (F : tF) (Ar : tA) (y1_7 : Int32) (y2_7 : Int32) (z0_7 : Int32) (Q : Int32 → tF → tA → Prop) : Prop :=
  (∃ n56, wm_way_L56 F Ar y1_7 y2_7 (fun (x3_12 : Int32) => ((¬ x3_12 = 0 → ((¬ (F 8) = 8 → vp_in (F 8) 8 ∧ ∀ Ar_15 : tA, Ar_15 = aset Ar 9 (F 8).toNatClampNeg y1_7 → vp_in (F 8) 8 ∧ ∀ Ar_16 : tA, Ar_16 = aset Ar_15 10 (F 8).toNatClampNeg (F 6) → (∃ n136, wm_way_L136 F y2_7 (fun (Ar_20 : tA) => ∀ F_21 : tF, F_21 = upd F 8 ((F 8) + 1) → Q ((F_21 8) - 1) F_21 Ar_20) Q n136 Ar_16 0)) ∧ ((F 8) = 8 → Q (-4) F Ar))) ∧ (x3_12 = 0 → Q (-2) F Ar))) Q n56 z0_7 0)
set_option maxHeartbeats 4000000 in
theorem kwm_way_J52 {Q : Int32 → tF → tA → Prop} (X : mCx p s m args meth c cX7_way 5 D cl ci dA dL) (hr : meth.sig.returnType = (some .int)) {F : tF} {Ar : tA} (y1_7 : Int32) (y2_7 : Int32) (z0_7 : Int32) {H : Heap} {locs : List Loc} {ls : Array Slot} (P : mP D cl (mReg ad) ci dA dL ad s.heap F Ar H locs) (hl : lv_has ls 5 [(0, .ref (ad 0)), (1, .int y1_7), (2, .int y2_7)]) (hw : wm_way_J52 F Ar y1_7 y2_7 z0_7 Q) : W p l e ({ frames := 2, cells := 0, slots := 0, locals := 42 }) s m args below meth c H locs 0 0 (MQ below (mQi D cl ci dA dL ad Q) args s 0 0 (mReg ad)) (F0 m 52 ls [.int z0_7]) := by
  obtain ⟨hx, hb, hml, hown, hts, -, -, hlk⟩ := id X
  have S : CallFix p m c _ _ s args lw_all RX7 := ⟨hx, hb, hml, hown, hts⟩
  refine lv_istore_n (lv' := [(3, .int z0_7), (0, .ref (ad 0)), (1, .int y1_7), (2, .int y2_7)]) hx hb dX7_way_52 rfl hl (by decide) rfl (fun ls hl => ?_)
  refine lv_iconst (v := 0) hx hb dX7_way_53 (by decide) ?_
  refine lv_istore (lv' := [(4, .int 0), (3, .int z0_7), (0, .ref (ad 0)), (1, .int y1_7), (2, .int y2_7)]) hx hb dX7_way_54 hl (by decide) rfl (fun ls hl => ?_)
  obtain ⟨n_23, hw⟩ := hw
  refine kwm_way_L56 X hr _ _ _ _ _   ?_ n_23 _ _ _ _ _ P (lv_sub hl [2, 3, 4, 1, 0] rfl) hw
  · intro x3_12 H locs ls P hl hw
    refine lv_iload_n hx hb dX7_way_91 rfl (lv_at hl 3 rfl) ?_
    refine lv_if_ne (tgt := 98) hx hb dX7_way_92 (by decide) (fun c_13 => ?_) (fun c_13 => ?_)
    · replace hw := hw.1 c_13
      refine lv_aload_n hx hb dX7_way_98 rfl (lv_at hl 0 rfl) ?_
      refine mg_ways X P dX7_way_99 ?_
      refine lv_bipush (v := 8) hx hb dX7_way_102 (by decide) ?_
      refine lv_icmp_ne (tgt := 110) hx hb dX7_way_104 (by decide) (fun c_14 => ?_) (fun c_14 => ?_)
      · replace hw := hw.1 c_14
        refine lv_aload_n hx hb dX7_way_110 rfl (lv_at hl 0 rfl) ?_
        refine mg_kind X P dX7_way_111 ?_
        refine lv_aload_n hx hb dX7_way_114 rfl (lv_at hl 0 rfl) ?_
        refine mg_ways X P dX7_way_115 ?_
        refine lv_iload_n hx hb dX7_way_118 rfl (lv_at hl 1 rfl) ?_
        refine m_iast X P 9 rfl (by decide) hw.1 dX7_way_119 (fun Ar_15 H locs eAr_15 P => ?_)
        replace hw := hw.2
        replace hw := hw Ar_15 eAr_15
        refine lv_aload_n hx hb dX7_way_120 rfl (lv_at hl 0 rfl) ?_
        refine mg_many X P dX7_way_121 ?_
        refine lv_aload_n hx hb dX7_way_124 rfl (lv_at hl 0 rfl) ?_
        refine mg_ways X P dX7_way_125 ?_
        refine lv_aload_n hx hb dX7_way_128 rfl (lv_at hl 0 rfl) ?_
        refine mg_carts X P dX7_way_129 ?_
        refine m_iast X P 10 rfl (by decide) hw.1 dX7_way_132 (fun Ar_16 H locs eAr_16 P => ?_)
        replace hw := hw.2
        replace hw := hw Ar_16 eAr_16
        refine lv_iconst (v := 0) hx hb dX7_way_133 (by decide) ?_
        refine lv_istore (lv' := [(4, .int 0), (0, .ref (ad 0)), (1, .int y1_7), (2, .int y2_7), (3, .int x3_12)]) hx hb dX7_way_134 hl (by decide) rfl (fun ls hl => ?_)
        obtain ⟨n_22, hw⟩ := hw
        refine kwm_way_L136 X hr _ _ _   ?_ n_22 _ _ _ _ _ P (lv_sub hl [1, 3, 0] rfl) hw
        · intro Ar_20 H locs ls P hl hw
          refine lv_aload_n hx hb dX7_way_178 rfl (lv_at hl 0 rfl) ?_
          refine lv_dup hx hb dX7_way_179 rfl ?_
          refine mg_ways X P dX7_way_180 ?_
          refine lv_iconst (v := 1) hx hb dX7_way_183 (by decide) ?_
          refine lv_iadd hx hb dX7_way_184 ?_
          refine mp_ways X P dX7_way_185 (fun F_21 H locs eF_21 P => ?_)
          replace hw := hw F_21 eF_21
          refine lv_aload_n hx hb dX7_way_188 rfl (lv_at hl 0 rfl) ?_
          refine mg_ways X P dX7_way_189 ?_
          refine lv_iconst (v := 1) hx hb dX7_way_192 (by decide) ?_
          refine lv_isub hx hb dX7_way_193 ?_
          exact m_iret X P hr hw dX7_way_194
      · replace hw := hw.2 c_14
        refine lv_bipush (v := (-4)) hx hb dX7_way_107 (by decide) ?_
        exact m_iret X P hr hw dX7_way_109
    · replace hw := hw.2 c_13
      refine lv_bipush (v := (-2)) hx hb dX7_way_95 (by decide) ?_
      exact m_iret X P hr hw dX7_way_97
def wm_way (F : tF) (Ar : tA) (a1 : Int32) (a2 : Int32) (Q : Int32 → tF → tA → Prop) : Prop :=
  wm_in a1 0 5 (fun r_1 => ((r_1 = 0 → Q (-2) F Ar) ∧ (¬ r_1 = 0 → wm_in a2 0 3 (fun r_3 => ((¬ r_3 = 0 → vp_in a2 4 ∧ ((¬ (Ar 26 a2.toNatClampNeg) = (-1) → vp_in a2 4 ∧ ((¬ (Ar 27 a2.toNatClampNeg) = (F 6) → (wm_way_J52 F Ar a1 a2 0 Q)) ∧ ((Ar 27 a2.toNatClampNeg) = (F 6) → (wm_way_J52 F Ar a1 a2 1 Q)))) ∧ ((Ar 26 a2.toNatClampNeg) = (-1) → Q (-11) F Ar))) ∧ (r_3 = 0 → Q (-2) F Ar))))))
set_option maxHeartbeats 4000000 in
theorem twm_way (l : Launch) (D : va_G) (cl : List vw_C) (ci : Nat) (dA dL : ClassId) (ad : Nat → Nat) (F : tF) (Ar : tA) (a1 : Int32) (a2 : Int32) (Q : Int32 → tF → tA → Prop) (hw : wm_way F Ar a1 a2 Q) : Met l yX7_way (ws_ yX7_way cX7_way 5 (some .int)) ({ frames := 2, cells := 0, slots := 0, locals := 42 }) (mPc D cl ci dA dL ad F Ar [.int a1, .int a2]) (mQi D cl ci dA dL ad Q) 0 0 (mReg ad) := by
  refine m_entry (by decide) rfl (Nat.le_of_ble_eq_true rfl) ?_
  intro p e s m below meth c ls X hr P hl
  obtain ⟨hx, hb, hml, hown, hts, -, -, hlk⟩ := id X
  have S : CallFix p m c _ _ s _ lw_all RX7 := ⟨hx, hb, hml, hown, hts⟩
  have hl : lv_has ls 5 [(0, .ref (ad 0)), (1, .int a1), (2, .int a2)] := hl
  refine lv_iload_n hx hb dX7_way_0 rfl (lv_at hl 1 rfl) ?_
  refine lv_iconst (v := 0) hx hb dX7_way_1 (by decide) ?_
  refine lv_iconst (v := 5) hx hb dX7_way_2 (by decide) ?_
  refine cwm_in S hw ⟨Nat.le_of_ble_eq_true rfl, Nat.le_of_ble_eq_true rfl⟩ hl.1 (Nat.le_of_ble_eq_true rfl) dX7_way_3 (fun r_1 hw => ?_)
  refine lv_if_eq (tgt := 18) hx hb dX7_way_6 (by decide) (fun c_2 => ?_) (fun c_2 => ?_)
  · replace hw := hw.1 c_2
    refine lv_bipush (v := (-2)) hx hb dX7_way_18 (by decide) ?_
    exact m_iret X P hr hw dX7_way_20
  · replace hw := hw.2 c_2
    refine lv_iload_n hx hb dX7_way_9 rfl (lv_at hl 2 rfl) ?_
    refine lv_iconst (v := 0) hx hb dX7_way_10 (by decide) ?_
    refine lv_iconst (v := 3) hx hb dX7_way_11 (by decide) ?_
    refine cwm_in S hw ⟨Nat.le_of_ble_eq_true rfl, Nat.le_of_ble_eq_true rfl⟩ hl.1 (Nat.le_of_ble_eq_true rfl) dX7_way_12 (fun r_3 hw => ?_)
    refine lv_if_ne (tgt := 21) hx hb dX7_way_15 (by decide) (fun c_4 => ?_) (fun c_4 => ?_)
    · replace hw := hw.1 c_4
      refine lv_aload_n hx hb dX7_way_21 rfl (lv_at hl 0 rfl) ?_
      refine mg_sheetSort X P dX7_way_22 ?_
      refine lv_iload_n hx hb dX7_way_25 rfl (lv_at hl 2 rfl) ?_
      refine m_iald X P 26 rfl (by decide) hw.1 dX7_way_26 ?_
      replace hw := hw.2
      refine lv_iconst (v := (-1)) hx hb dX7_way_27 (by decide) ?_
      refine lv_icmp_ne (tgt := 34) hx hb dX7_way_28 (by decide) (fun c_5 => ?_) (fun c_5 => ?_)
      · replace hw := hw.1 c_5
        refine lv_aload_n hx hb dX7_way_34 rfl (lv_at hl 0 rfl) ?_
        refine mg_sheetSize X P dX7_way_35 ?_
        refine lv_iload_n hx hb dX7_way_38 rfl (lv_at hl 2 rfl) ?_
        refine m_iald X P 27 rfl (by decide) hw.1 dX7_way_39 ?_
        replace hw := hw.2
        refine lv_aload_n hx hb dX7_way_40 rfl (lv_at hl 0 rfl) ?_
        refine mg_carts X P dX7_way_41 ?_
        refine lv_icmp_ne (tgt := 51) hx hb dX7_way_44 (by decide) (fun c_6 => ?_) (fun c_6 => ?_)
        · replace hw := hw.1 c_6
          refine lv_iconst (v := 0) hx hb dX7_way_51 (by decide) ?_
          exact kwm_way_J52 X hr _ _ _ P (lv_sub hl [0, 1, 2] rfl) hw
        · replace hw := hw.2 c_6
          refine lv_iconst (v := 1) hx hb dX7_way_47 (by decide) ?_
          refine lv_goto (tgt := 52) hx hb dX7_way_48 (by decide) ?_
          exact kwm_way_J52 X hr _ _ _ P (lv_sub hl [0, 1, 2] rfl) hw
      · replace hw := hw.2 c_5
        refine lv_bipush (v := (-11)) hx hb dX7_way_31 (by decide) ?_
        exact m_iret X P hr hw dX7_way_33
    · replace hw := hw.2 c_4
      refine lv_bipush (v := (-2)) hx hb dX7_way_18 (by decide) ?_
      exact m_iret X P hr hw dX7_way_20
-- isWay
def wm_isWay (F : tF) (Ar : tA) (a1 : Int32) (Q : Int32 → Prop) : Prop :=
  wm_in a1 0 ((F 8) - 1) (fun r_1 => (r_1 = 0 ∨ r_1 = 1) ∧ Q r_1)
set_option maxHeartbeats 4000000 in
theorem twm_isWay (l : Launch) (D : va_G) (cl : List vw_C) (ci : Nat) (dA dL : ClassId) (ad : Nat → Nat) (F : tF) (Ar : tA) (a1 : Int32) (Q : Int32 → Prop) (hw : wm_isWay F Ar a1 Q) : Met l yX7_isWay (ws_ yX7_isWay cX7_isWay 2 (some .boolean)) ({ frames := 1, cells := 0, slots := 0, locals := 22 }) (mPc D cl ci dA dL ad F Ar [.int a1]) (vp_Si Q) 0 0 (fun _ => False) := by
  refine m_entry (by decide) rfl (Nat.le_of_ble_eq_true rfl) ?_
  intro p e s m below meth c ls X hr P hl
  obtain ⟨hx, hb, hml, hown, hts, -, -, hlk⟩ := id X
  have S : CallFix p m c _ _ s _ lw_all RX7 := ⟨hx, hb, hml, hown, hts⟩
  have hl : lv_has ls 2 [(0, .ref (ad 0)), (1, .int a1)] := hl
  refine lv_iload_n hx hb dX7_isWay_0 rfl (lv_at hl 1 rfl) ?_
  refine lv_iconst (v := 0) hx hb dX7_isWay_1 (by decide) ?_
  refine lv_aload_n hx hb dX7_isWay_2 rfl (lv_at hl 0 rfl) ?_
  refine mg_ways X P dX7_isWay_3 ?_
  refine lv_iconst (v := 1) hx hb dX7_isWay_6 (by decide) ?_
  refine lv_isub hx hb dX7_isWay_7 ?_
  refine cwm_in S hw ⟨Nat.le_of_ble_eq_true rfl, Nat.le_of_ble_eq_true rfl⟩ hl.1 (Nat.le_of_ble_eq_true rfl) dX7_isWay_8 (fun r_1 hw => ?_)
  exact r_zret hx hb hlk hr hw.1 hw.2 dX7_isWay_11
theorem cwm_isWay {Q : Int32 → Prop} {a1 : Int32} {Z : State → Prop} {H : Heap} {locs : List Loc} {F : tF} {Ar : tA} (X : mCx p s m args meth c cc nL D cl ci dA dL) (P : mP D cl (mReg ad) ci dA dL ad s.heap F Ar H locs) (hw : wm_isWay F Ar a1 Q) (hR : 1 + 1 ≤ R.frames ∧ 8 + (2 + 11) + 22 ≤ R.locals) (hls : ls.size = nL) (hst : (rest.map fun v => v.category).sum ≤ 8) (hdg : decode cc pc = .ok (.invokevirtual 217, 3)) (kk : ∀ r, Q r → W p l e R s m args below meth c H locs 0 0 Z (F0 m (pc + 3) ls (.int r :: rest))) : W p l e R s m args below meth c H locs 0 0 Z (F0 m pc ls (.int a1 :: .ref (ad 0) :: rest)) := by
  obtain ⟨hx, hb, hml, hown, hts, hK, hc, hlk⟩ := X
  exact vp_callSi (m_runR (as := [.int a1]) hx hb hml hown hts hK hc P.1 P.2.1 (twm_isWay l D cl ci dA dL ad F Ar a1 Q hw) (cwV 1 hts (lw_V q1586 q1588 qs45 q88 q1589) rfl rfl rfl (by decide +kernel) hR) rfl hls hst hdg ⟨Nat.zero_le _, Nat.zero_le _⟩) kk
-- isOf
def wm_isOf_J29 (F : tF) (Ar : tA) (z0_5 : Int32) (z2_5 : Int32) (z3_5 : Int32) (Q : Int32 → Prop) : Prop :=
  vp_in z0_5 8 ∧ wm_in z3_5 z2_5 ((Ar 10 z0_5.toNatClampNeg) - 1) (fun r_6 => ((r_6 = 0 → Q 0) ∧ (¬ r_6 = 0 → Q 1)))
set_option maxHeartbeats 4000000 in
theorem kwm_isOf_J29 {Q : Int32 → Prop} (X : mCx p s m args meth c cX7_isOf 3 D cl ci dA dL) (hr : meth.sig.returnType = (some .boolean)) {F : tF} {Ar : tA} (z0_5 : Int32) (z2_5 : Int32) (z3_5 : Int32) {ls : Array Slot} (P : mP D cl (mReg ad) ci dA dL ad s.heap F Ar s.heap []) (hl : lv_has ls 3 [(0, .ref (ad 0))]) (hw : wm_isOf_J29 F Ar z0_5 z2_5 z3_5 Q) : W p l e ({ frames := 2, cells := 0, slots := 0, locals := 43 }) s m args below meth c s.heap [] 0 0 (MQ below (vp_Si Q) args s 0 0 (fun _ => False)) (F0 m 29 ls [.int z0_5, .ref (ad 11), .int z2_5, .int z3_5]) := by
  obtain ⟨hx, hb, hml, hown, hts, -, -, hlk⟩ := id X
  have S : CallFix p m c _ _ s args lw_all RX7 := ⟨hx, hb, hml, hown, hts⟩
  refine m_iald X P 10 rfl (by decide) hw.1 dX7_isOf_29 ?_
  replace hw := hw.2
  refine lv_iconst (v := 1) hx hb dX7_isOf_30 (by decide) ?_
  refine lv_isub hx hb dX7_isOf_31 ?_
  refine cwm_in S hw ⟨Nat.le_of_ble_eq_true rfl, Nat.le_of_ble_eq_true rfl⟩ hl.1 (Nat.le_of_ble_eq_true rfl) dX7_isOf_32 (fun r_6 hw => ?_)
  refine lv_if_eq (tgt := 42) hx hb dX7_isOf_35 (by decide) (fun c_7 => ?_) (fun c_7 => ?_)
  · replace hw := hw.1 c_7
    refine lv_iconst (v := 0) hx hb dX7_isOf_42 (by decide) ?_
    exact r_zret hx hb hlk hr (Or.inl rfl) hw dX7_isOf_43
  · replace hw := hw.2 c_7
    refine lv_iconst (v := 1) hx hb dX7_isOf_38 (by decide) ?_
    refine lv_goto (tgt := 43) hx hb dX7_isOf_39 (by decide) ?_
    exact r_zret hx hb hlk hr (Or.inr rfl) hw dX7_isOf_43
def wm_isOf (F : tF) (Ar : tA) (a1 : Int32) (a2 : Int32) (Q : Int32 → Prop) : Prop :=
  wm_isWay F Ar a1 (fun r_1 => ((r_1 = 0 → Q 0) ∧ (¬ r_1 = 0 → wm_in a1 0 7 (fun r_3 => ((r_3 = 0 → (wm_isOf_J29 F Ar 0 0 a2 Q)) ∧ (¬ r_3 = 0 → (wm_isOf_J29 F Ar a1 0 a2 Q)))))))
set_option maxHeartbeats 4000000 in
theorem twm_isOf (l : Launch) (D : va_G) (cl : List vw_C) (ci : Nat) (dA dL : ClassId) (ad : Nat → Nat) (F : tF) (Ar : tA) (a1 : Int32) (a2 : Int32) (Q : Int32 → Prop) (hw : wm_isOf F Ar a1 a2 Q) : Met l yX7_isOf (ws_ yX7_isOf cX7_isOf 3 (some .boolean)) ({ frames := 2, cells := 0, slots := 0, locals := 43 }) (mPc D cl ci dA dL ad F Ar [.int a1, .int a2]) (vp_Si Q) 0 0 (fun _ => False) := by
  refine m_entry (by decide) rfl (Nat.le_of_ble_eq_true rfl) ?_
  intro p e s m below meth c ls X hr P hl
  obtain ⟨hx, hb, hml, hown, hts, -, -, hlk⟩ := id X
  have S : CallFix p m c _ _ s _ lw_all RX7 := ⟨hx, hb, hml, hown, hts⟩
  have hl : lv_has ls 3 [(0, .ref (ad 0)), (1, .int a1), (2, .int a2)] := hl
  refine lv_aload_n hx hb dX7_isOf_0 rfl (lv_at hl 0 rfl) ?_
  refine lv_iload_n hx hb dX7_isOf_1 rfl (lv_at hl 1 rfl) ?_
  refine cwm_isWay X P hw ⟨Nat.le_of_ble_eq_true rfl, Nat.le_of_ble_eq_true rfl⟩ hl.1 (Nat.le_of_ble_eq_true rfl) dX7_isOf_2 (fun r_1 hw => ?_)
  refine lv_if_eq (tgt := 42) hx hb dX7_isOf_5 (by decide) (fun c_2 => ?_) (fun c_2 => ?_)
  · replace hw := hw.1 c_2
    refine lv_iconst (v := 0) hx hb dX7_isOf_42 (by decide) ?_
    exact r_zret hx hb hlk hr (Or.inl rfl) hw dX7_isOf_43
  · replace hw := hw.2 c_2
    refine lv_iload_n hx hb dX7_isOf_8 rfl (lv_at hl 2 rfl) ?_
    refine lv_iconst (v := 0) hx hb dX7_isOf_9 (by decide) ?_
    refine lv_aload_n hx hb dX7_isOf_10 rfl (lv_at hl 0 rfl) ?_
    refine mg_many X P dX7_isOf_11 ?_
    refine lv_iload_n hx hb dX7_isOf_14 rfl (lv_at hl 1 rfl) ?_
    refine lv_iconst (v := 0) hx hb dX7_isOf_15 (by decide) ?_
    refine lv_bipush (v := 7) hx hb dX7_isOf_16 (by decide) ?_
    refine cwm_in S hw ⟨Nat.le_of_ble_eq_true rfl, Nat.le_of_ble_eq_true rfl⟩ hl.1 (Nat.le_of_ble_eq_true rfl) dX7_isOf_18 (fun r_3 hw => ?_)
    refine lv_if_eq (tgt := 28) hx hb dX7_isOf_21 (by decide) (fun c_4 => ?_) (fun c_4 => ?_)
    · replace hw := hw.1 c_4
      refine lv_iconst (v := 0) hx hb dX7_isOf_28 (by decide) ?_
      exact kwm_isOf_J29 X hr _ _ _ P (lv_sub hl [0] rfl) hw
    · replace hw := hw.2 c_4
      refine lv_iload_n hx hb dX7_isOf_24 rfl (lv_at hl 1 rfl) ?_
      refine lv_goto (tgt := 29) hx hb dX7_isOf_25 (by decide) ?_
      exact kwm_isOf_J29 X hr _ _ _ P (lv_sub hl [0] rfl) hw
theorem cwm_isOf {Q : Int32 → Prop} {a1 : Int32} {a2 : Int32} {Z : State → Prop} {H : Heap} {locs : List Loc} {F : tF} {Ar : tA} (X : mCx p s m args meth c cc nL D cl ci dA dL) (P : mP D cl (mReg ad) ci dA dL ad s.heap F Ar H locs) (hw : wm_isOf F Ar a1 a2 Q) (hR : 2 + 1 ≤ R.frames ∧ 8 + (3 + 11) + 43 ≤ R.locals) (hls : ls.size = nL) (hst : (rest.map fun v => v.category).sum ≤ 8) (hdg : decode cc pc = .ok (.invokevirtual 223, 3)) (kk : ∀ r, Q r → W p l e R s m args below meth c H locs 0 0 Z (F0 m (pc + 3) ls (.int r :: rest))) : W p l e R s m args below meth c H locs 0 0 Z (F0 m pc ls (.int a2 :: .int a1 :: .ref (ad 0) :: rest)) := by
  obtain ⟨hx, hb, hml, hown, hts, hK, hc, hlk⟩ := X
  exact vp_callSi (m_runR (as := [.int a1, .int a2]) hx hb hml hown hts hK hc P.1 P.2.1 (twm_isOf l D cl ci dA dL ad F Ar a1 a2 Q hw) (cwV 2 hts (lw_V q1590 q1592 qs46 q88 q1593) rfl rfl rfl (by decide +kernel) hR) rfl hls hst hdg ⟨Nat.zero_le _, Nat.zero_le _⟩) kk
-- wayTold
def wm_wayTold (F : tF) (Ar : tA) (a1 : Int32) (a2 : Int32) (Q : Int32 → Prop) : Prop :=
  wm_isWay F Ar a1 (fun r_1 => ((¬ r_1 = 0 → ((¬ a2 = (-1) → ((¬ a2 = (-2) → wm_isOf F Ar a1 a2 (fun r_5 => ((r_5 = 0 → Q (-7)) ∧ (¬ r_5 = 0 → vp_in ((16 * a1) + a2) 128 ∧ Q (Ar 11 ((16 * a1) + a2).toNatClampNeg))))) ∧ (a2 = (-2) → vp_in a1 8 ∧ Q (Ar 10 a1.toNatClampNeg)))) ∧ (a2 = (-1) → vp_in a1 8 ∧ Q (Ar 9 a1.toNatClampNeg)))) ∧ (r_1 = 0 → Q (-5))))
set_option maxHeartbeats 4000000 in
theorem twm_wayTold (l : Launch) (D : va_G) (cl : List vw_C) (ci : Nat) (dA dL : ClassId) (ad : Nat → Nat) (F : tF) (Ar : tA) (a1 : Int32) (a2 : Int32) (Q : Int32 → Prop) (hw : wm_wayTold F Ar a1 a2 Q) : Met l yX7_wayTold (ws_ yX7_wayTold cX7_wayTold 3 (some .int)) ({ frames := 3, cells := 0, slots := 0, locals := 65 }) (mPc D cl ci dA dL ad F Ar [.int a1, .int a2]) (vp_Si Q) 0 0 (fun _ => False) := by
  refine m_entry (by decide) rfl (Nat.le_of_ble_eq_true rfl) ?_
  intro p e s m below meth c ls X hr P hl
  obtain ⟨hx, hb, hml, hown, hts, -, -, hlk⟩ := id X
  have S : CallFix p m c _ _ s _ lw_all RX7 := ⟨hx, hb, hml, hown, hts⟩
  have hl : lv_has ls 3 [(0, .ref (ad 0)), (1, .int a1), (2, .int a2)] := hl
  refine lv_aload_n hx hb dX7_wayTold_0 rfl (lv_at hl 0 rfl) ?_
  refine lv_iload_n hx hb dX7_wayTold_1 rfl (lv_at hl 1 rfl) ?_
  refine cwm_isWay X P hw ⟨Nat.le_of_ble_eq_true rfl, Nat.le_of_ble_eq_true rfl⟩ hl.1 (Nat.le_of_ble_eq_true rfl) dX7_wayTold_2 (fun r_1 hw => ?_)
  refine lv_if_ne (tgt := 11) hx hb dX7_wayTold_5 (by decide) (fun c_2 => ?_) (fun c_2 => ?_)
  · replace hw := hw.1 c_2
    refine lv_iload_n hx hb dX7_wayTold_11 rfl (lv_at hl 2 rfl) ?_
    refine lv_iconst (v := (-1)) hx hb dX7_wayTold_12 (by decide) ?_
    refine lv_icmp_ne (tgt := 25) hx hb dX7_wayTold_13 (by decide) (fun c_3 => ?_) (fun c_3 => ?_)
    · replace hw := hw.1 c_3
      refine lv_iload_n hx hb dX7_wayTold_25 rfl (lv_at hl 2 rfl) ?_
      refine lv_bipush (v := (-2)) hx hb dX7_wayTold_26 (by decide) ?_
      refine lv_icmp_ne (tgt := 40) hx hb dX7_wayTold_28 (by decide) (fun c_4 => ?_) (fun c_4 => ?_)
      · replace hw := hw.1 c_4
        refine lv_aload_n hx hb dX7_wayTold_40 rfl (lv_at hl 0 rfl) ?_
        refine lv_iload_n hx hb dX7_wayTold_41 rfl (lv_at hl 1 rfl) ?_
        refine lv_iload_n hx hb dX7_wayTold_42 rfl (lv_at hl 2 rfl) ?_
        refine cwm_isOf X P hw ⟨Nat.le_of_ble_eq_true rfl, Nat.le_of_ble_eq_true rfl⟩ hl.1 (Nat.le_of_ble_eq_true rfl) dX7_wayTold_43 (fun r_5 hw => ?_)
        refine lv_if_eq (tgt := 63) hx hb dX7_wayTold_46 (by decide) (fun c_6 => ?_) (fun c_6 => ?_)
        · replace hw := hw.1 c_6
          refine lv_bipush (v := (-7)) hx hb dX7_wayTold_63 (by decide) ?_
          exact r_iret hx hb hlk hr hw dX7_wayTold_65
        · replace hw := hw.2 c_6
          refine lv_aload_n hx hb dX7_wayTold_49 rfl (lv_at hl 0 rfl) ?_
          refine mg_choice X P dX7_wayTold_50 ?_
          refine lv_bipush (v := 16) hx hb dX7_wayTold_53 (by decide) ?_
          refine lv_iload_n hx hb dX7_wayTold_55 rfl (lv_at hl 1 rfl) ?_
          refine lv_imul hx hb dX7_wayTold_56 ?_
          refine lv_iload_n hx hb dX7_wayTold_57 rfl (lv_at hl 2 rfl) ?_
          refine lv_iadd hx hb dX7_wayTold_58 ?_
          refine m_iald X P 11 rfl (by decide) hw.1 dX7_wayTold_59 ?_
          replace hw := hw.2
          refine lv_goto (tgt := 65) hx hb dX7_wayTold_60 (by decide) ?_
          exact r_iret hx hb hlk hr hw dX7_wayTold_65
      · replace hw := hw.2 c_4
        refine lv_aload_n hx hb dX7_wayTold_31 rfl (lv_at hl 0 rfl) ?_
        refine mg_many X P dX7_wayTold_32 ?_
        refine lv_iload_n hx hb dX7_wayTold_35 rfl (lv_at hl 1 rfl) ?_
        refine m_iald X P 10 rfl (by decide) hw.1 dX7_wayTold_36 ?_
        replace hw := hw.2
        refine lv_goto (tgt := 65) hx hb dX7_wayTold_37 (by decide) ?_
        exact r_iret hx hb hlk hr hw dX7_wayTold_65
    · replace hw := hw.2 c_3
      refine lv_aload_n hx hb dX7_wayTold_16 rfl (lv_at hl 0 rfl) ?_
      refine mg_kind X P dX7_wayTold_17 ?_
      refine lv_iload_n hx hb dX7_wayTold_20 rfl (lv_at hl 1 rfl) ?_
      refine m_iald X P 9 rfl (by decide) hw.1 dX7_wayTold_21 ?_
      replace hw := hw.2
      refine lv_goto (tgt := 65) hx hb dX7_wayTold_22 (by decide) ?_
      exact r_iret hx hb hlk hr hw dX7_wayTold_65
  · replace hw := hw.2 c_2
    refine lv_bipush (v := (-5)) hx hb dX7_wayTold_8 (by decide) ?_
    exact r_iret hx hb hlk hr hw dX7_wayTold_10
-- set
def wm_set (F : tF) (Ar : tA) (a1 : Int32) (a2 : Int32) (a3 : Int32) (Q : Int32 → tF → tA → Prop) : Prop :=
  wm_isOf F Ar a1 a2 (fun r_1 => ((¬ r_1 = 0 → wm_isChoice a3 (fun r_3 => ((¬ r_3 = 0 → vp_in ((16 * a1) + a2) 128 ∧ ∀ x4_5 : Int32, x4_5 = (Ar 11 ((16 * a1) + a2).toNatClampNeg) → vp_in ((16 * a1) + a2) 128 ∧ ∀ Ar_6 : tA, Ar_6 = aset Ar 11 ((16 * a1) + a2).toNatClampNeg a3 → Q x4_5 F Ar_6) ∧ (r_3 = 0 → Q (-7) F Ar)))) ∧ (r_1 = 0 → Q (-5) F Ar)))
set_option maxHeartbeats 4000000 in
theorem twm_set (l : Launch) (D : va_G) (cl : List vw_C) (ci : Nat) (dA dL : ClassId) (ad : Nat → Nat) (F : tF) (Ar : tA) (a1 : Int32) (a2 : Int32) (a3 : Int32) (Q : Int32 → tF → tA → Prop) (hw : wm_set F Ar a1 a2 a3 Q) : Met l yX7_set (ws_ yX7_set cX7_set 5 (some .int)) ({ frames := 3, cells := 0, slots := 0, locals := 65 }) (mPc D cl ci dA dL ad F Ar [.int a1, .int a2, .int a3]) (mQi D cl ci dA dL ad Q) 0 0 (mReg ad) := by
  refine m_entry (by decide) rfl (Nat.le_of_ble_eq_true rfl) ?_
  intro p e s m below meth c ls X hr P hl
  obtain ⟨hx, hb, hml, hown, hts, -, -, hlk⟩ := id X
  have S : CallFix p m c _ _ s _ lw_all RX7 := ⟨hx, hb, hml, hown, hts⟩
  have hl : lv_has ls 5 [(0, .ref (ad 0)), (1, .int a1), (2, .int a2), (3, .int a3)] := hl
  refine lv_aload_n hx hb dX7_set_0 rfl (lv_at hl 0 rfl) ?_
  refine lv_iload_n hx hb dX7_set_1 rfl (lv_at hl 1 rfl) ?_
  refine lv_iload_n hx hb dX7_set_2 rfl (lv_at hl 2 rfl) ?_
  refine cwm_isOf X P hw ⟨Nat.le_of_ble_eq_true rfl, Nat.le_of_ble_eq_true rfl⟩ hl.1 (Nat.le_of_ble_eq_true rfl) dX7_set_3 (fun r_1 hw => ?_)
  refine lv_if_ne (tgt := 12) hx hb dX7_set_6 (by decide) (fun c_2 => ?_) (fun c_2 => ?_)
  · replace hw := hw.1 c_2
    refine lv_iload_n hx hb dX7_set_12 rfl (lv_at hl 3 rfl) ?_
    refine cwm_isChoice S hw ⟨Nat.le_of_ble_eq_true rfl, Nat.le_of_ble_eq_true rfl⟩ hl.1 (Nat.le_of_ble_eq_true rfl) dX7_set_13 (fun r_3 hw => ?_)
    refine lv_if_ne (tgt := 22) hx hb dX7_set_16 (by decide) (fun c_4 => ?_) (fun c_4 => ?_)
    · replace hw := hw.1 c_4
      refine lv_aload_n hx hb dX7_set_22 rfl (lv_at hl 0 rfl) ?_
      refine mg_choice X P dX7_set_23 ?_
      refine lv_bipush (v := 16) hx hb dX7_set_26 (by decide) ?_
      refine lv_iload_n hx hb dX7_set_28 rfl (lv_at hl 1 rfl) ?_
      refine lv_imul hx hb dX7_set_29 ?_
      refine lv_iload_n hx hb dX7_set_30 rfl (lv_at hl 2 rfl) ?_
      refine lv_iadd hx hb dX7_set_31 ?_
      refine m_iald X P 11 rfl (by decide) hw.1 dX7_set_32 ?_
      replace hw := hw.2
      refine lv_topi (fun x4_5 ex4_5 => ?_)
      replace hw := hw x4_5 ex4_5
      refine lv_istore (lv' := [(4, .int x4_5), (0, .ref (ad 0)), (1, .int a1), (2, .int a2), (3, .int a3)]) hx hb dX7_set_33 hl (by decide) rfl (fun ls hl => ?_)
      refine lv_aload_n hx hb dX7_set_35 rfl (lv_at hl 1 rfl) ?_
      refine mg_choice X P dX7_set_36 ?_
      refine lv_bipush (v := 16) hx hb dX7_set_39 (by decide) ?_
      refine lv_iload_n hx hb dX7_set_41 rfl (lv_at hl 2 rfl) ?_
      refine lv_imul hx hb dX7_set_42 ?_
      refine lv_iload_n hx hb dX7_set_43 rfl (lv_at hl 3 rfl) ?_
      refine lv_iadd hx hb dX7_set_44 ?_
      refine lv_iload_n hx hb dX7_set_45 rfl (lv_at hl 4 rfl) ?_
      refine m_iast X P 11 rfl (by decide) hw.1 dX7_set_46 (fun Ar_6 H locs eAr_6 P => ?_)
      replace hw := hw.2
      replace hw := hw Ar_6 eAr_6
      refine lv_iload hx hb dX7_set_47 (lv_at hl 0 rfl) ?_
      exact m_iret X P hr hw dX7_set_49
    · replace hw := hw.2 c_4
      refine lv_bipush (v := (-7)) hx hb dX7_set_19 (by decide) ?_
      exact m_iret X P hr hw dX7_set_21
  · replace hw := hw.2 c_2
    refine lv_bipush (v := (-5)) hx hb dX7_set_9 (by decide) ?_
    exact m_iret X P hr hw dX7_set_11
-- held
def wm_held (a1 : Int32) (Q : Int32 → Prop) : Prop :=
  ((a1 ≤ 9999 → ((((-9999) : Int32) ≤ a1 → Q a1) ∧ (¬ ((-9999) : Int32) ≤ a1 → Q (-9999)))) ∧ (¬ a1 ≤ 9999 → Q 9999))
set_option maxHeartbeats 4000000 in
theorem twm_held (l : Launch) (a1 : Int32) (Q : Int32 → Prop) (hw : wm_held a1 Q) : Met l yX7_held (ws_ yX7_held cX7_held 1 (some .int)) ({ frames := 0, cells := 0, slots := 0, locals := 0 }) (va_Pc [.int a1] (fun _ => True)) (vp_Si Q) 0 0 (fun _ => False) := by
  refine s_entry (by decide) (Nat.le_of_ble_eq_true rfl) ?_
  intro p e s m below meth c ls hx hb hml hown hts hlk hr hl
  have hown : s.vm.findClass RX7 = some m.cls := hown
  have X : sCx p s m _ meth c cX7_held 1 RX7 := ⟨hx, hb, hml, hown, hts, hlk⟩
  have S : CallFix p m c _ _ s _ lw_all RX7 := ⟨hx, hb, hml, hown, hts⟩
  have hl : lv_has ls 1 [(0, .int a1)] := hl
  refine lv_iload_n hx hb dX7_held_0 rfl (lv_at hl 0 rfl) ?_
  refine lv_sipush (v := 9999) hx hb dX7_held_1 (by decide) ?_
  refine lv_icmp_le (tgt := 13) hx hb dX7_held_4 (by decide) (fun c_1 => ?_) (fun c_1 => ?_)
  · replace hw := hw.1 c_1
    refine lv_iload_n hx hb dX7_held_13 rfl (lv_at hl 0 rfl) ?_
    refine lv_sipush (v := (-9999)) hx hb dX7_held_14 (by decide) ?_
    refine lv_icmp_ge (tgt := 26) hx hb dX7_held_17 (by decide) (fun c_2 => ?_) (fun c_2 => ?_)
    · replace hw := hw.1 c_2
      refine lv_iload_n hx hb dX7_held_26 rfl (lv_at hl 0 rfl) ?_
      exact r_iret hx hb hlk hr hw dX7_held_27
    · replace hw := hw.2 c_2
      refine lv_sipush (v := (-9999)) hx hb dX7_held_20 (by decide) ?_
      refine lv_goto (tgt := 27) hx hb dX7_held_23 (by decide) ?_
      exact r_iret hx hb hlk hr hw dX7_held_27
  · replace hw := hw.2 c_1
    refine lv_sipush (v := 9999) hx hb dX7_held_7 (by decide) ?_
    refine lv_goto (tgt := 27) hx hb dX7_held_10 (by decide) ?_
    exact r_iret hx hb hlk hr hw dX7_held_27
theorem cwm_held {Q : Int32 → Prop} {a1 : Int32} {Z : State → Prop} {H : Heap} {locs : List Loc} (S : CallFix p m c cc nL s args lw_all RX7) (hw : wm_held a1 Q) (hR : 0 + 1 ≤ R.frames ∧ 8 + (1 + 11) + 0 ≤ R.locals) (hls : ls.size = nL) (hst : (rest.map fun v => v.category).sum ≤ 8) (hdg : decode cc pc = .ok (.invokestatic 246, 3)) (kk : ∀ r, Q r → W p l e R s m args below meth c H locs 0 0 Z (F0 m (pc + 3) ls (.int r :: rest))) : W p l e R s m args below meth c H locs 0 0 Z (F0 m pc ls (.int a1 :: rest)) :=
  vp_callSi (s_runR (as := [.int a1]) S (twm_held l a1 Q hw) (va_cwS 1 S.2.2.2.2 (lw_S q1637 q1638 q88 q1639) rfl rfl rfl (by decide +kernel) hR) rfl hls hst hdg ⟨Nat.zero_le _, Nat.zero_le _⟩) kk
-- paid
def wm_paid (F : tF) (Ar : tA) (a1 : Int32) (a2 : Int32) (Q : Int32 → Prop) : Prop :=
  vp_in a2 16 ∧ ((¬ (Ar 42 a2.toNatClampNeg) = (-1) → vp_in a2 16 ∧ vp_in a2 16 ∧ vp_in ((24 * ((Ar 40 a2.toNatClampNeg) / 24)) + (Ar 42 a2.toNatClampNeg)) 48 ∧ ∀ x3_2 : Int32, x3_2 = (Ar 1 ((24 * ((Ar 40 a2.toNatClampNeg) / 24)) + (Ar 42 a2.toNatClampNeg)).toNatClampNeg) → vp_in a1 8 ∧ ((¬ (Ar 9 a1.toNatClampNeg) = 1 → vp_in a1 8 ∧ ((¬ (Ar 9 a1.toNatClampNeg) = 5 → Q 0) ∧ ((Ar 9 a1.toNatClampNeg) = 5 → Q (x3_2 / 2)))) ∧ ((Ar 9 a1.toNatClampNeg) = 1 → Q x3_2))) ∧ ((Ar 42 a2.toNatClampNeg) = (-1) → Q 0))
set_option maxHeartbeats 4000000 in
theorem twm_paid (l : Launch) (D : va_G) (cl : List vw_C) (ci : Nat) (dA dL : ClassId) (ad : Nat → Nat) (F : tF) (Ar : tA) (a1 : Int32) (a2 : Int32) (Q : Int32 → Prop) (hw : wm_paid F Ar a1 a2 Q) : Met l yX7_paid (ws_ yX7_paid cX7_paid 4 (some .int)) ({ frames := 0, cells := 0, slots := 0, locals := 0 }) (mPc D cl ci dA dL ad F Ar [.int a1, .int a2]) (vp_Si Q) 0 0 (fun _ => False) := by
  refine m_entry (by decide) rfl (Nat.le_of_ble_eq_true rfl) ?_
  intro p e s m below meth c ls X hr P hl
  obtain ⟨hx, hb, hml, hown, hts, -, -, hlk⟩ := id X
  have S : CallFix p m c _ _ s _ lw_all RX7 := ⟨hx, hb, hml, hown, hts⟩
  have hl : lv_has ls 4 [(0, .ref (ad 0)), (1, .int a1), (2, .int a2)] := hl
  refine lv_aload_n hx hb dX7_paid_0 rfl (lv_at hl 0 rfl) ?_
  refine mg_passed X P dX7_paid_1 ?_
  refine lv_iload_n hx hb dX7_paid_4 rfl (lv_at hl 2 rfl) ?_
  refine m_iald X P 42 rfl (by decide) hw.1 dX7_paid_5 ?_
  replace hw := hw.2
  refine lv_iconst (v := (-1)) hx hb dX7_paid_6 (by decide) ?_
  refine lv_icmp_ne (tgt := 12) hx hb dX7_paid_7 (by decide) (fun c_1 => ?_) (fun c_1 => ?_)
  · replace hw := hw.1 c_1
    refine lv_aload_n hx hb dX7_paid_12 rfl (lv_at hl 0 rfl) ?_
    refine mg_toll X P dX7_paid_13 ?_
    refine lv_bipush (v := 24) hx hb dX7_paid_16 (by decide) ?_
    refine lv_aload_n hx hb dX7_paid_18 rfl (lv_at hl 0 rfl) ?_
    refine mg_now X P dX7_paid_19 ?_
    refine lv_iload_n hx hb dX7_paid_22 rfl (lv_at hl 2 rfl) ?_
    refine m_iald X P 40 rfl (by decide) hw.1 dX7_paid_23 ?_
    replace hw := hw.2
    refine lv_bipush (v := 24) hx hb dX7_paid_24 (by decide) ?_
    refine lv_idiv hx hb dX7_paid_26 (by decide) ?_
    refine lv_imul hx hb dX7_paid_27 ?_
    refine lv_aload_n hx hb dX7_paid_28 rfl (lv_at hl 0 rfl) ?_
    refine mg_passed X P dX7_paid_29 ?_
    refine lv_iload_n hx hb dX7_paid_32 rfl (lv_at hl 2 rfl) ?_
    refine m_iald X P 42 rfl (by decide) hw.1 dX7_paid_33 ?_
    replace hw := hw.2
    refine lv_iadd hx hb dX7_paid_34 ?_
    refine m_iald X P 1 rfl (by decide) hw.1 dX7_paid_35 ?_
    replace hw := hw.2
    refine lv_topi (fun x3_2 ex3_2 => ?_)
    replace hw := hw x3_2 ex3_2
    refine lv_istore_n (lv' := [(3, .int x3_2), (0, .ref (ad 0)), (1, .int a1), (2, .int a2)]) hx hb dX7_paid_36 rfl hl (by decide) rfl (fun ls hl => ?_)
    refine lv_aload_n hx hb dX7_paid_37 rfl (lv_at hl 1 rfl) ?_
    refine mg_kind X P dX7_paid_38 ?_
    refine lv_iload_n hx hb dX7_paid_41 rfl (lv_at hl 2 rfl) ?_
    refine m_iald X P 9 rfl (by decide) hw.1 dX7_paid_42 ?_
    replace hw := hw.2
    refine lv_iconst (v := 1) hx hb dX7_paid_43 (by decide) ?_
    refine lv_icmp_ne (tgt := 51) hx hb dX7_paid_44 (by decide) (fun c_3 => ?_) (fun c_3 => ?_)
    · replace hw := hw.1 c_3
      refine lv_aload_n hx hb dX7_paid_51 rfl (lv_at hl 1 rfl) ?_
      refine mg_kind X P dX7_paid_52 ?_
      refine lv_iload_n hx hb dX7_paid_55 rfl (lv_at hl 2 rfl) ?_
      refine m_iald X P 9 rfl (by decide) hw.1 dX7_paid_56 ?_
      replace hw := hw.2
      refine lv_iconst (v := 5) hx hb dX7_paid_57 (by decide) ?_
      refine lv_icmp_ne (tgt := 67) hx hb dX7_paid_58 (by decide) (fun c_4 => ?_) (fun c_4 => ?_)
      · replace hw := hw.1 c_4
        refine lv_iconst (v := 0) hx hb dX7_paid_67 (by decide) ?_
        exact r_iret hx hb hlk hr hw dX7_paid_68
      · replace hw := hw.2 c_4
        refine lv_iload_n hx hb dX7_paid_61 rfl (lv_at hl 0 rfl) ?_
        refine lv_iconst (v := 2) hx hb dX7_paid_62 (by decide) ?_
        refine lv_idiv hx hb dX7_paid_63 (by decide) ?_
        refine lv_goto (tgt := 68) hx hb dX7_paid_64 (by decide) ?_
        exact r_iret hx hb hlk hr hw dX7_paid_68
    · replace hw := hw.2 c_3
      refine lv_iload_n hx hb dX7_paid_47 rfl (lv_at hl 0 rfl) ?_
      refine lv_goto (tgt := 68) hx hb dX7_paid_48 (by decide) ?_
      exact r_iret hx hb hlk hr hw dX7_paid_68
  · replace hw := hw.2 c_1
    refine lv_iconst (v := 0) hx hb dX7_paid_10 (by decide) ?_
    exact r_iret hx hb hlk hr hw dX7_paid_11
theorem cwm_paid {Q : Int32 → Prop} {a1 : Int32} {a2 : Int32} {Z : State → Prop} {H : Heap} {locs : List Loc} {F : tF} {Ar : tA} (X : mCx p s m args meth c cc nL D cl ci dA dL) (P : mP D cl (mReg ad) ci dA dL ad s.heap F Ar H locs) (hw : wm_paid F Ar a1 a2 Q) (hR : 0 + 1 ≤ R.frames ∧ 8 + (4 + 11) + 0 ≤ R.locals) (hls : ls.size = nL) (hst : (rest.map fun v => v.category).sum ≤ 8) (hdg : decode cc pc = .ok (.invokevirtual 236, 3)) (kk : ∀ r, Q r → W p l e R s m args below meth c H locs 0 0 Z (F0 m (pc + 3) ls (.int r :: rest))) : W p l e R s m args below meth c H locs 0 0 Z (F0 m pc ls (.int a2 :: .int a1 :: .ref (ad 0) :: rest)) := by
  obtain ⟨hx, hb, hml, hown, hts, hK, hc, hlk⟩ := X
  exact vp_callSi (m_runR (as := [.int a1, .int a2]) hx hb hml hown hts hK hc P.1 P.2.1 (twm_paid l D cl ci dA dL ad F Ar a1 a2 Q hw) (cwV 2 hts (lw_V q1626 q1628 qs53 q88 q1629) rfl rfl rfl (by decide +kernel) hR) rfl hls hst hdg ⟨Nat.zero_le _, Nat.zero_le _⟩) kk
-- names
def wm_names_J68 (F : tF) (Ar : tA) (y1_7 : Int32) (y2_7 : Int32) (z0_7 : Int32) (z1_7 : Int32) (Q : tF → tA → Prop) : Prop :=
  vp_in z1_7 6 ∧ ∀ Ar_8 : tA, Ar_8 = aset Ar 39 z1_7.toNatClampNeg z0_7 → vp_in y2_7 16 ∧ ∀ Ar_9 : tA, Ar_9 = aset Ar_8 39 (3 : Int32).toNatClampNeg (Ar_8 42 y2_7.toNatClampNeg) → vp_in y2_7 16 ∧ ∀ Ar_10 : tA, Ar_10 = aset Ar_9 39 (4 : Int32).toNatClampNeg (Ar_9 7 y2_7.toNatClampNeg) → wm_paid F Ar_10 y1_7 y2_7 (fun r_11 => ∀ Ar_12 : tA, Ar_12 = aset Ar_10 39 (5 : Int32).toNatClampNeg r_11 → Q F Ar_12)
set_option maxHeartbeats 4000000 in
theorem kwm_names_J68 {Q : tF → tA → Prop} (X : mCx p s m args meth c cX7_names 4 D cl ci dA dL) (hr : meth.sig.returnType = none) {F : tF} {Ar : tA} (y1_7 : Int32) (y2_7 : Int32) (z0_7 : Int32) (z1_7 : Int32) {H : Heap} {locs : List Loc} {ls : Array Slot} (P : mP D cl (mReg ad) ci dA dL ad s.heap F Ar H locs) (hl : lv_has ls 4 [(0, .ref (ad 0)), (1, .int y1_7), (2, .int y2_7)]) (hw : wm_names_J68 F Ar y1_7 y2_7 z0_7 z1_7 Q) : W p l e ({ frames := 1, cells := 0, slots := 0, locals := 23 }) s m args below meth c H locs 0 0 (MQ below (mQv D cl ci dA dL ad Q) args s 0 0 (mReg ad)) (F0 m 68 ls [.int z0_7, .int z1_7, .ref (ad 40)]) := by
  obtain ⟨hx, hb, hml, hown, hts, -, -, hlk⟩ := id X
  have S : CallFix p m c _ _ s args lw_all RX7 := ⟨hx, hb, hml, hown, hts⟩
  refine m_iast X P 39 rfl (by decide) hw.1 dX7_names_68 (fun Ar_8 H locs eAr_8 P => ?_)
  replace hw := hw.2
  replace hw := hw Ar_8 eAr_8
  refine lv_aload_n hx hb dX7_names_69 rfl (lv_at hl 0 rfl) ?_
  refine mg_named X P dX7_names_70 ?_
  refine lv_iconst (v := 3) hx hb dX7_names_73 (by decide) ?_
  refine lv_aload_n hx hb dX7_names_74 rfl (lv_at hl 0 rfl) ?_
  refine mg_passed X P dX7_names_75 ?_
  refine lv_iload_n hx hb dX7_names_78 rfl (lv_at hl 2 rfl) ?_
  refine m_iald X P 42 rfl (by decide) hw.1 dX7_names_79 ?_
  replace hw := hw.2
  refine m_iast X P 39 rfl (by decide) (vin_of (by decide)) dX7_names_80 (fun Ar_9 H locs eAr_9 P => ?_)
  replace hw := hw Ar_9 eAr_9
  refine lv_aload_n hx hb dX7_names_81 rfl (lv_at hl 0 rfl) ?_
  refine mg_named X P dX7_names_82 ?_
  refine lv_iconst (v := 4) hx hb dX7_names_85 (by decide) ?_
  refine lv_aload_n hx hb dX7_names_86 rfl (lv_at hl 0 rfl) ?_
  refine mg_sortOf X P dX7_names_87 ?_
  refine lv_iload_n hx hb dX7_names_90 rfl (lv_at hl 2 rfl) ?_
  refine m_iald X P 7 rfl (by decide) hw.1 dX7_names_91 ?_
  replace hw := hw.2
  refine m_iast X P 39 rfl (by decide) (vin_of (by decide)) dX7_names_92 (fun Ar_10 H locs eAr_10 P => ?_)
  replace hw := hw Ar_10 eAr_10
  refine lv_aload_n hx hb dX7_names_93 rfl (lv_at hl 0 rfl) ?_
  refine mg_named X P dX7_names_94 ?_
  refine lv_iconst (v := 5) hx hb dX7_names_97 (by decide) ?_
  refine lv_aload_n hx hb dX7_names_98 rfl (lv_at hl 0 rfl) ?_
  refine lv_iload_n hx hb dX7_names_99 rfl (lv_at hl 1 rfl) ?_
  refine lv_iload_n hx hb dX7_names_100 rfl (lv_at hl 2 rfl) ?_
  refine cwm_paid X P hw ⟨Nat.le_of_ble_eq_true rfl, Nat.le_of_ble_eq_true rfl⟩ hl.1 (Nat.le_of_ble_eq_true rfl) dX7_names_101 (fun r_11 hw => ?_)
  refine m_iast X P 39 rfl (by decide) (vin_of (by decide)) dX7_names_104 (fun Ar_12 H locs eAr_12 P => ?_)
  replace hw := hw Ar_12 eAr_12
  exact m_vret X P hr hw dX7_names_105
def wm_names_J53 (F : tF) (Ar : tA) (y1_4 : Int32) (y2_4 : Int32) (y3_4 : Int32) (z0_4 : Int32) (z1_4 : Int32) (Q : tF → tA → Prop) : Prop :=
  vp_in z1_4 6 ∧ ∀ Ar_5 : tA, Ar_5 = aset Ar 39 z1_4.toNatClampNeg z0_4 → ((y3_4 ≤ 0 → (wm_names_J68 F Ar_5 y1_4 y2_4 0 2 Q)) ∧ (¬ y3_4 ≤ 0 → (wm_names_J68 F Ar_5 y1_4 y2_4 y3_4 2 Q)))
set_option maxHeartbeats 4000000 in
theorem kwm_names_J53 {Q : tF → tA → Prop} (X : mCx p s m args meth c cX7_names 4 D cl ci dA dL) (hr : meth.sig.returnType = none) {F : tF} {Ar : tA} (y1_4 : Int32) (y2_4 : Int32) (y3_4 : Int32) (z0_4 : Int32) (z1_4 : Int32) {H : Heap} {locs : List Loc} {ls : Array Slot} (P : mP D cl (mReg ad) ci dA dL ad s.heap F Ar H locs) (hl : lv_has ls 4 [(0, .ref (ad 0)), (1, .int y1_4), (2, .int y2_4), (3, .int y3_4)]) (hw : wm_names_J53 F Ar y1_4 y2_4 y3_4 z0_4 z1_4 Q) : W p l e ({ frames := 1, cells := 0, slots := 0, locals := 23 }) s m args below meth c H locs 0 0 (MQ below (mQv D cl ci dA dL ad Q) args s 0 0 (mReg ad)) (F0 m 53 ls [.int z0_4, .int z1_4, .ref (ad 40)]) := by
  obtain ⟨hx, hb, hml, hown, hts, -, -, hlk⟩ := id X
  have S : CallFix p m c _ _ s args lw_all RX7 := ⟨hx, hb, hml, hown, hts⟩
  refine m_iast X P 39 rfl (by decide) hw.1 dX7_names_53 (fun Ar_5 H locs eAr_5 P => ?_)
  replace hw := hw.2
  replace hw := hw Ar_5 eAr_5
  refine lv_aload_n hx hb dX7_names_54 rfl (lv_at hl 0 rfl) ?_
  refine mg_named X P dX7_names_55 ?_
  refine lv_iconst (v := 2) hx hb dX7_names_58 (by decide) ?_
  refine lv_iload_n hx hb dX7_names_59 rfl (lv_at hl 3 rfl) ?_
  refine lv_if_le (tgt := 67) hx hb dX7_names_60 (by decide) (fun c_6 => ?_) (fun c_6 => ?_)
  · replace hw := hw.1 c_6
    refine lv_iconst (v := 0) hx hb dX7_names_67 (by decide) ?_
    exact kwm_names_J68 X hr _ _ _ _ P (lv_sub hl [0, 1, 2] rfl) hw
  · replace hw := hw.2 c_6
    refine lv_iload_n hx hb dX7_names_63 rfl (lv_at hl 3 rfl) ?_
    refine lv_goto (tgt := 68) hx hb dX7_names_64 (by decide) ?_
    exact kwm_names_J68 X hr _ _ _ _ P (lv_sub hl [0, 1, 2] rfl) hw
def wm_names (F : tF) (Ar : tA) (a1 : Int32) (a2 : Int32) (Q : tF → tA → Prop) : Prop :=
  vp_in a2 16 ∧ vp_in a2 16 ∧ vp_in (Ar 7 a2.toNatClampNeg) 4 ∧ ∀ x3_1 : Int32, x3_1 = ((Ar 42 a2.toNatClampNeg) - (Ar 3 (Ar 7 a2.toNatClampNeg).toNatClampNeg)) → vp_in a2 16 ∧ vp_in a2 16 ∧ ∀ Ar_2 : tA, Ar_2 = aset Ar 39 (0 : Int32).toNatClampNeg ((Ar 42 a2.toNatClampNeg) - (Ar 41 a2.toNatClampNeg)) → (((0 : Int32) ≤ x3_1 → (wm_names_J53 F Ar_2 a1 a2 x3_1 0 1 Q)) ∧ (¬ (0 : Int32) ≤ x3_1 → (wm_names_J53 F Ar_2 a1 a2 x3_1 (-x3_1) 1 Q)))
set_option maxHeartbeats 4000000 in
theorem twm_names (l : Launch) (D : va_G) (cl : List vw_C) (ci : Nat) (dA dL : ClassId) (ad : Nat → Nat) (F : tF) (Ar : tA) (a1 : Int32) (a2 : Int32) (Q : tF → tA → Prop) (hw : wm_names F Ar a1 a2 Q) : Met l yX7_names (ws_ yX7_names cX7_names 4 none) ({ frames := 1, cells := 0, slots := 0, locals := 23 }) (mPc D cl ci dA dL ad F Ar [.int a1, .int a2]) (mQv D cl ci dA dL ad Q) 0 0 (mReg ad) := by
  refine m_entry (by decide) rfl (Nat.le_of_ble_eq_true rfl) ?_
  intro p e s m below meth c ls X hr P hl
  obtain ⟨hx, hb, hml, hown, hts, -, -, hlk⟩ := id X
  have S : CallFix p m c _ _ s _ lw_all RX7 := ⟨hx, hb, hml, hown, hts⟩
  have hl : lv_has ls 4 [(0, .ref (ad 0)), (1, .int a1), (2, .int a2)] := hl
  refine lv_aload_n hx hb dX7_names_0 rfl (lv_at hl 0 rfl) ?_
  refine mg_passed X P dX7_names_1 ?_
  refine lv_iload_n hx hb dX7_names_4 rfl (lv_at hl 2 rfl) ?_
  refine m_iald X P 42 rfl (by decide) hw.1 dX7_names_5 ?_
  replace hw := hw.2
  refine lv_aload_n hx hb dX7_names_6 rfl (lv_at hl 0 rfl) ?_
  refine mg_wished X P dX7_names_7 ?_
  refine lv_aload_n hx hb dX7_names_10 rfl (lv_at hl 0 rfl) ?_
  refine mg_sortOf X P dX7_names_11 ?_
  refine lv_iload_n hx hb dX7_names_14 rfl (lv_at hl 2 rfl) ?_
  refine m_iald X P 7 rfl (by decide) hw.1 dX7_names_15 ?_
  replace hw := hw.2
  refine m_iald X P 3 rfl (by decide) hw.1 dX7_names_16 ?_
  replace hw := hw.2
  refine lv_isub hx hb dX7_names_17 ?_
  refine lv_topi (fun x3_1 ex3_1 => ?_)
  replace hw := hw x3_1 ex3_1
  refine lv_istore_n (lv' := [(3, .int x3_1), (0, .ref (ad 0)), (1, .int a1), (2, .int a2)]) hx hb dX7_names_18 rfl hl (by decide) rfl (fun ls hl => ?_)
  refine lv_aload_n hx hb dX7_names_19 rfl (lv_at hl 1 rfl) ?_
  refine mg_named X P dX7_names_20 ?_
  refine lv_iconst (v := 0) hx hb dX7_names_23 (by decide) ?_
  refine lv_aload_n hx hb dX7_names_24 rfl (lv_at hl 1 rfl) ?_
  refine mg_passed X P dX7_names_25 ?_
  refine lv_iload_n hx hb dX7_names_28 rfl (lv_at hl 3 rfl) ?_
  refine m_iald X P 42 rfl (by decide) hw.1 dX7_names_29 ?_
  replace hw := hw.2
  refine lv_aload_n hx hb dX7_names_30 rfl (lv_at hl 1 rfl) ?_
  refine mg_came X P dX7_names_31 ?_
  refine lv_iload_n hx hb dX7_names_34 rfl (lv_at hl 3 rfl) ?_
  refine m_iald X P 41 rfl (by decide) hw.1 dX7_names_35 ?_
  replace hw := hw.2
  refine lv_isub hx hb dX7_names_36 ?_
  refine m_iast X P 39 rfl (by decide) (vin_of (by decide)) dX7_names_37 (fun Ar_2 H locs eAr_2 P => ?_)
  replace hw := hw Ar_2 eAr_2
  refine lv_aload_n hx hb dX7_names_38 rfl (lv_at hl 1 rfl) ?_
  refine mg_named X P dX7_names_39 ?_
  refine lv_iconst (v := 1) hx hb dX7_names_42 (by decide) ?_
  refine lv_iload_n hx hb dX7_names_43 rfl (lv_at hl 0 rfl) ?_
  refine lv_if_ge (tgt := 52) hx hb dX7_names_44 (by decide) (fun c_3 => ?_) (fun c_3 => ?_)
  · replace hw := hw.1 c_3
    refine lv_iconst (v := 0) hx hb dX7_names_52 (by decide) ?_
    exact kwm_names_J53 X hr _ _ _ _ _ P (lv_sub hl [1, 2, 3, 0] rfl) hw
  · replace hw := hw.2 c_3
    refine lv_iload_n hx hb dX7_names_47 rfl (lv_at hl 0 rfl) ?_
    refine lv_ineg hx hb dX7_names_48 ?_
    refine lv_goto (tgt := 53) hx hb dX7_names_49 (by decide) ?_
    exact kwm_names_J53 X hr _ _ _ _ _ P (lv_sub hl [1, 2, 3, 0] rfl) hw
theorem cwm_names {Q : tF → tA → Prop} {a1 : Int32} {a2 : Int32} {Z : State → Prop} {H : Heap} {locs : List Loc} {F : tF} {Ar : tA} (X : mCx p s m args meth c cc nL D cl ci dA dL) (P : mP D cl (mReg ad) ci dA dL ad s.heap F Ar H locs) (hw : wm_names F Ar a1 a2 Q) (hR : 1 + 1 ≤ R.frames ∧ 8 + (4 + 11) + 23 ≤ R.locals) (hls : ls.size = nL) (hst : (rest.map fun v => v.category).sum ≤ 8) (hdg : decode cc pc = .ok (.invokevirtual 239, 3)) (kk : ∀ (F1 : tF) (A1 : tA) (H1 : Heap) (locs1 : List Loc), Q F1 A1 → mP D cl (mReg ad) ci dA dL ad s.heap F1 A1 H1 locs1 → W p l e R s m args below meth c H1 locs1 0 0 Z (F0 m (pc + 3) ls (rest))) : W p l e R s m args below meth c H locs 0 0 Z (F0 m pc ls (.int a2 :: .int a1 :: .ref (ad 0) :: rest)) := by
  obtain ⟨hx, hb, hml, hown, hts, hK, hc, hlk⟩ := X
  exact va_callv (m_runV (as := [.int a1, .int a2]) hx hb hml hown hts hK hc P.1 P.2.1 (twm_names l D cl ci dA dL ad F Ar a1 a2 Q hw) (cwV 2 hts (lw_V q1622 q1624 qs52 q88 q1625) rfl rfl rfl (by decide +kernel) hR) rfl hls hst hdg ⟨Nat.zero_le _, Nat.zero_le _⟩) P.2.2 (fun q _ h => h) (fun q h => h) (fun u t H1 locs1 ht hvm hp hB _ _ hS => kk u.1 u.2 H1 locs1 hp ⟨by rw [← ht]; exact hB, P.2.1.to (fun k h => mM_dom.mpr (mM_dom.mp h)), hS⟩)
-- two
def wm_two_J52 (Q : Int32 → Prop) : Prop :=
  Q 1
set_option maxHeartbeats 4000000 in
theorem kwm_two_J52 {Q : Int32 → Prop} (X : sCx p s m args meth c cX7_two 3 RX7) (hr : meth.sig.returnType = (some .int)) {ls : Array Slot} (hl : lv_has ls 3 []) (hw : wm_two_J52 Q) : W p l e ({ frames := 0, cells := 0, slots := 0, locals := 0 }) s m args below meth c s.heap [] 0 0 (MQ below (vp_Si Q) args s 0 0 (fun _ => False)) (F0 m 52 ls []) := by
  obtain ⟨hx, hb, hml, hown, hts, hlk⟩ := id X
  have S : CallFix p m c _ _ s args lw_all RX7 := ⟨hx, hb, hml, hown, hts⟩
  refine lv_iconst (v := 1) hx hb dX7_two_52 (by decide) ?_
  refine lv_goto (tgt := 57) hx hb dX7_two_53 (by decide) ?_
  exact r_iret hx hb hlk hr hw dX7_two_57
def wm_two (a1 : Int32) (a2 : Int32) (a3 : Int32) (Q : Int32 → Prop) : Prop :=
  ((a1 = 11 → ((¬ a2 = 0 → (wm_two_J52 Q)) ∧ (a2 = 0 → ((a3 = 0 → Q 0) ∧ (¬ a3 = 0 → (wm_two_J52 Q)))))) ∧ (¬ a1 = 11 → ((a1 = 12 → ((a2 = 0 → Q 0) ∧ (¬ a2 = 0 → ((a3 = 0 → Q 0) ∧ (¬ a3 = 0 → Q 1))))) ∧ (¬ a1 = 12 → ((a1 = 14 → ((a3 ≤ a2 → Q 0) ∧ (¬ a3 ≤ a2 → Q 1))) ∧ (¬ a1 = 14 → ((a1 = 15 → ((¬ a2 = a3 → Q 0) ∧ (a2 = a3 → Q 1))) ∧ (¬ a1 = 15 → ((a1 = 16 → Q (a2 + a3)) ∧ (¬ a1 = 16 → ((a1 = 17 → Q (a2 - a3)) ∧ (¬ a1 = 17 → Q (a2 * a3)))))))))))))
set_option maxHeartbeats 4000000 in
theorem twm_two (l : Launch) (a1 : Int32) (a2 : Int32) (a3 : Int32) (Q : Int32 → Prop) (hw : wm_two a1 a2 a3 Q) : Met l yX7_two (ws_ yX7_two cX7_two 3 (some .int)) ({ frames := 0, cells := 0, slots := 0, locals := 0 }) (va_Pc [.int a1, .int a2, .int a3] (fun _ => True)) (vp_Si Q) 0 0 (fun _ => False) := by
  refine s_entry (by decide) (Nat.le_of_ble_eq_true rfl) ?_
  intro p e s m below meth c ls hx hb hml hown hts hlk hr hl
  have hown : s.vm.findClass RX7 = some m.cls := hown
  have X : sCx p s m _ meth c cX7_two 3 RX7 := ⟨hx, hb, hml, hown, hts, hlk⟩
  have S : CallFix p m c _ _ s _ lw_all RX7 := ⟨hx, hb, hml, hown, hts⟩
  have hl : lv_has ls 3 [(0, .int a1), (1, .int a2), (2, .int a3)] := hl
  refine lv_iload_n hx hb dX7_two_0 rfl (lv_at hl 0 rfl) ?_
  by_cases c_1 : a1 = 11
  · replace hw := hw.1 c_1
    refine ts_in (off := 43) (tgt := 44) hx hb dX7_two_1 11 c_1 (by decide) (by decide) ?_
    refine lv_iload_n hx hb dX7_two_44 rfl (lv_at hl 1 rfl) ?_
    refine lv_if_ne (tgt := 52) hx hb dX7_two_45 (by decide) (fun c_2 => ?_) (fun c_2 => ?_)
    · replace hw := hw.1 c_2
      exact kwm_two_J52 X hr   (lv_sub hl [] rfl) hw
    · replace hw := hw.2 c_2
      refine lv_iload_n hx hb dX7_two_48 rfl (lv_at hl 2 rfl) ?_
      refine lv_if_eq (tgt := 56) hx hb dX7_two_49 (by decide) (fun c_4 => ?_) (fun c_4 => ?_)
      · replace hw := hw.1 c_4
        refine lv_iconst (v := 0) hx hb dX7_two_56 (by decide) ?_
        exact r_iret hx hb hlk hr hw dX7_two_57
      · replace hw := hw.2 c_4
        exact kwm_two_J52 X hr   (lv_sub hl [] rfl) hw
  · replace hw := hw.2 c_1
    by_cases c_5 : a1 = 12
    · replace hw := hw.1 c_5
      refine ts_in (off := 57) (tgt := 58) hx hb dX7_two_1 12 c_5 (by decide) (by decide) ?_
      refine lv_iload_n hx hb dX7_two_58 rfl (lv_at hl 1 rfl) ?_
      refine lv_if_eq (tgt := 70) hx hb dX7_two_59 (by decide) (fun c_6 => ?_) (fun c_6 => ?_)
      · replace hw := hw.1 c_6
        refine lv_iconst (v := 0) hx hb dX7_two_70 (by decide) ?_
        exact r_iret hx hb hlk hr hw dX7_two_71
      · replace hw := hw.2 c_6
        refine lv_iload_n hx hb dX7_two_62 rfl (lv_at hl 2 rfl) ?_
        refine lv_if_eq (tgt := 70) hx hb dX7_two_63 (by decide) (fun c_7 => ?_) (fun c_7 => ?_)
        · replace hw := hw.1 c_7
          refine lv_iconst (v := 0) hx hb dX7_two_70 (by decide) ?_
          exact r_iret hx hb hlk hr hw dX7_two_71
        · replace hw := hw.2 c_7
          refine lv_iconst (v := 1) hx hb dX7_two_66 (by decide) ?_
          refine lv_goto (tgt := 71) hx hb dX7_two_67 (by decide) ?_
          exact r_iret hx hb hlk hr hw dX7_two_71
    · replace hw := hw.2 c_5
      by_cases c_8 : a1 = 14
      · replace hw := hw.1 c_8
        refine ts_in (off := 71) (tgt := 72) hx hb dX7_two_1 14 c_8 (by decide) (by decide) ?_
        refine lv_iload_n hx hb dX7_two_72 rfl (lv_at hl 1 rfl) ?_
        refine lv_iload_n hx hb dX7_two_73 rfl (lv_at hl 2 rfl) ?_
        refine lv_icmp_ge (tgt := 81) hx hb dX7_two_74 (by decide) (fun c_9 => ?_) (fun c_9 => ?_)
        · replace hw := hw.1 c_9
          refine lv_iconst (v := 0) hx hb dX7_two_81 (by decide) ?_
          exact r_iret hx hb hlk hr hw dX7_two_82
        · replace hw := hw.2 c_9
          refine lv_iconst (v := 1) hx hb dX7_two_77 (by decide) ?_
          refine lv_goto (tgt := 82) hx hb dX7_two_78 (by decide) ?_
          exact r_iret hx hb hlk hr hw dX7_two_82
      · replace hw := hw.2 c_8
        by_cases c_10 : a1 = 15
        · replace hw := hw.1 c_10
          refine ts_in (off := 82) (tgt := 83) hx hb dX7_two_1 15 c_10 (by decide) (by decide) ?_
          refine lv_iload_n hx hb dX7_two_83 rfl (lv_at hl 1 rfl) ?_
          refine lv_iload_n hx hb dX7_two_84 rfl (lv_at hl 2 rfl) ?_
          refine lv_icmp_ne (tgt := 92) hx hb dX7_two_85 (by decide) (fun c_11 => ?_) (fun c_11 => ?_)
          · replace hw := hw.1 c_11
            refine lv_iconst (v := 0) hx hb dX7_two_92 (by decide) ?_
            exact r_iret hx hb hlk hr hw dX7_two_93
          · replace hw := hw.2 c_11
            refine lv_iconst (v := 1) hx hb dX7_two_88 (by decide) ?_
            refine lv_goto (tgt := 93) hx hb dX7_two_89 (by decide) ?_
            exact r_iret hx hb hlk hr hw dX7_two_93
        · replace hw := hw.2 c_10
          by_cases c_12 : a1 = 16
          · replace hw := hw.1 c_12
            refine ts_in (off := 93) (tgt := 94) hx hb dX7_two_1 16 c_12 (by decide) (by decide) ?_
            refine lv_iload_n hx hb dX7_two_94 rfl (lv_at hl 1 rfl) ?_
            refine lv_iload_n hx hb dX7_two_95 rfl (lv_at hl 2 rfl) ?_
            refine lv_iadd hx hb dX7_two_96 ?_
            exact r_iret hx hb hlk hr hw dX7_two_97
          · replace hw := hw.2 c_12
            by_cases c_13 : a1 = 17
            · replace hw := hw.1 c_13
              refine ts_in (off := 97) (tgt := 98) hx hb dX7_two_1 17 c_13 (by decide) (by decide) ?_
              refine lv_iload_n hx hb dX7_two_98 rfl (lv_at hl 1 rfl) ?_
              refine lv_iload_n hx hb dX7_two_99 rfl (lv_at hl 2 rfl) ?_
              refine lv_isub hx hb dX7_two_100 ?_
              exact r_iret hx hb hlk hr hw dX7_two_101
            · replace hw := hw.2 c_13
              by_cases c_14 : a1 = 13
              · refine ts_in (off := 101) (tgt := 102) hx hb dX7_two_1 13 c_14 (by decide) (by decide) ?_
                refine lv_iload_n hx hb dX7_two_102 rfl (lv_at hl 1 rfl) ?_
                refine lv_iload_n hx hb dX7_two_103 rfl (lv_at hl 2 rfl) ?_
                refine lv_imul hx hb dX7_two_104 ?_
                exact r_iret hx hb hlk hr hw dX7_two_105
              refine lv_tableOut (tgt := 102) hx hb dX7_two_1 (by have z0 : a1.toInt ≠ 11 := i32_ne c_1; have z1 : a1.toInt ≠ 12 := i32_ne c_5; have z2 : a1.toInt ≠ 14 := i32_ne c_8; have z3 : a1.toInt ≠ 15 := i32_ne c_10; have z4 : a1.toInt ≠ 16 := i32_ne c_12; have z5 : a1.toInt ≠ 17 := i32_ne c_13; have z6 : a1.toInt ≠ 13 := i32_ne c_14; omega) (by decide) ?_
              refine lv_iload_n hx hb dX7_two_102 rfl (lv_at hl 1 rfl) ?_
              refine lv_iload_n hx hb dX7_two_103 rfl (lv_at hl 2 rfl) ?_
              refine lv_imul hx hb dX7_two_104 ?_
              exact r_iret hx hb hlk hr hw dX7_two_105
theorem cwm_two {Q : Int32 → Prop} {a1 : Int32} {a2 : Int32} {a3 : Int32} {Z : State → Prop} {H : Heap} {locs : List Loc} (S : CallFix p m c cc nL s args lw_all RX7) (hw : wm_two a1 a2 a3 Q) (hR : 0 + 1 ≤ R.frames ∧ 8 + (3 + 11) + 0 ≤ R.locals) (hls : ls.size = nL) (hst : (rest.map fun v => v.category).sum ≤ 8) (hdg : decode cc pc = .ok (.invokestatic 210, 3)) (kk : ∀ r, Q r → W p l e R s m args below meth c H locs 0 0 Z (F0 m (pc + 3) ls (.int r :: rest))) : W p l e R s m args below meth c H locs 0 0 Z (F0 m pc ls (.int a3 :: .int a2 :: .int a1 :: rest)) :=
  vp_callSi (s_runR (as := [.int a1, .int a2, .int a3]) S (twm_two l a1 a2 a3 Q hw) (va_cwS 3 S.2.2.2.2 (lw_S q1634 q1635 q88 q1636) rfl rfl rfl (by decide +kernel) hR) rfl hls hst hdg ⟨Nat.zero_le _, Nat.zero_le _⟩) kk
end MM1
