/-! by gen/model.py: methods of the model, 4 -/
set_option maxRecDepth 100000
section MM4
variable {p : Program} {l : Launch} {e : Env} {R : Room} {s : State} {m : MethodId} {args : Array Value} {below : List Frame} {meth : Method} {c : Code}
variable {cc : ByteArray} {nL pc : Nat} {ls : Array Slot} {rest : List Value} {D : va_G} {cl : List vw_C} {ci : Nat} {dA dL : ClassId} {ad : Nat → Nat}
-- count
def wm_count (F : tF) (Ar : tA) (a1 : Int32) (Q : Int32 → Prop) : Prop :=
  ((a1 = 0 → Q (F 2)) ∧ (¬ a1 = 0 → ((a1 = 1 → Q (F 6)) ∧ (¬ a1 = 1 → ((a1 = 2 → Q (F 8)) ∧ (¬ a1 = 2 → ((a1 = 3 → Q (F 16)) ∧ (¬ a1 = 3 → ((a1 = 4 → Q (F 17)) ∧ (¬ a1 = 4 → ((a1 = 5 → Q (F 13)) ∧ (¬ a1 = 5 → Q (-2)))))))))))))
set_option maxHeartbeats 4000000 in
theorem twm_count (l : Launch) (D : va_G) (cl : List vw_C) (ci : Nat) (dA dL : ClassId) (ad : Nat → Nat) (F : tF) (Ar : tA) (a1 : Int32) (Q : Int32 → Prop) (hw : wm_count F Ar a1 Q) : Met l yX7_count (ws_ yX7_count cX7_count 2 (some .int)) ({ frames := 0, cells := 0, slots := 0, locals := 0 }) (mPc D cl ci dA dL ad F Ar [.int a1]) (vp_Si Q) 0 0 (fun _ => False) := by
  refine m_entry (by decide) rfl (Nat.le_of_ble_eq_true rfl) ?_
  intro p e s m below meth c ls X hr P hl
  obtain ⟨hx, hb, hml, hown, hts, -, -, hlk⟩ := id X
  have S : CallFix p m c _ _ s _ lw_all RX7 := ⟨hx, hb, hml, hown, hts⟩
  have hl : lv_has ls 2 [(0, .ref (ad 0)), (1, .int a1)] := hl
  refine lv_iload_n hx hb dX7_count_0 rfl (lv_at hl 1 rfl) ?_
  by_cases c_1 : a1 = 0
  · replace hw := hw.1 c_1
    refine ts_in (off := 39) (tgt := 40) hx hb dX7_count_1 0 c_1 (by decide) (by decide) ?_
    refine lv_aload_n hx hb dX7_count_40 rfl (lv_at hl 0 rfl) ?_
    refine mg_sorts X P dX7_count_41 ?_
    exact r_iret hx hb hlk hr hw dX7_count_44
  · replace hw := hw.2 c_1
    by_cases c_2 : a1 = 1
    · replace hw := hw.1 c_2
      refine ts_in (off := 44) (tgt := 45) hx hb dX7_count_1 1 c_2 (by decide) (by decide) ?_
      refine lv_aload_n hx hb dX7_count_45 rfl (lv_at hl 0 rfl) ?_
      refine mg_carts X P dX7_count_46 ?_
      exact r_iret hx hb hlk hr hw dX7_count_49
    · replace hw := hw.2 c_2
      by_cases c_3 : a1 = 2
      · replace hw := hw.1 c_3
        refine ts_in (off := 49) (tgt := 50) hx hb dX7_count_1 2 c_3 (by decide) (by decide) ?_
        refine lv_aload_n hx hb dX7_count_50 rfl (lv_at hl 0 rfl) ?_
        refine mg_ways X P dX7_count_51 ?_
        exact r_iret hx hb hlk hr hw dX7_count_54
      · replace hw := hw.2 c_3
        by_cases c_4 : a1 = 3
        · replace hw := hw.1 c_4
          refine ts_in (off := 54) (tgt := 55) hx hb dX7_count_1 3 c_4 (by decide) (by decide) ?_
          refine lv_aload_n hx hb dX7_count_55 rfl (lv_at hl 0 rfl) ?_
          refine mg_texts X P dX7_count_56 ?_
          exact r_iret hx hb hlk hr hw dX7_count_59
        · replace hw := hw.2 c_4
          by_cases c_5 : a1 = 4
          · replace hw := hw.1 c_5
            refine ts_in (off := 59) (tgt := 60) hx hb dX7_count_1 4 c_5 (by decide) (by decide) ?_
            refine lv_aload_n hx hb dX7_count_60 rfl (lv_at hl 0 rfl) ?_
            refine mg_rule X P dX7_count_61 ?_
            exact r_iret hx hb hlk hr hw dX7_count_64
          · replace hw := hw.2 c_5
            by_cases c_6 : a1 = 5
            · replace hw := hw.1 c_6
              refine ts_in (off := 64) (tgt := 65) hx hb dX7_count_1 5 c_6 (by decide) (by decide) ?_
              refine lv_aload_n hx hb dX7_count_65 rfl (lv_at hl 0 rfl) ?_
              refine mg_taped X P dX7_count_66 ?_
              exact r_iret hx hb hlk hr hw dX7_count_69
            · replace hw := hw.2 c_6
              refine lv_tableOut (tgt := 70) hx hb dX7_count_1 (by have z0 : a1.toInt ≠ 0 := i32_ne c_1; have z1 : a1.toInt ≠ 1 := i32_ne c_2; have z2 : a1.toInt ≠ 2 := i32_ne c_3; have z3 : a1.toInt ≠ 3 := i32_ne c_4; have z4 : a1.toInt ≠ 4 := i32_ne c_5; have z5 : a1.toInt ≠ 5 := i32_ne c_6; omega) (by decide) ?_
              refine lv_bipush (v := (-2)) hx hb dX7_count_70 (by decide) ?_
              exact r_iret hx hb hlk hr hw dX7_count_72
-- image
def wm_image_L31 (F : tF) (Kx67_5 : tA → Prop) (Q : Int32 → tF → tA → Prop) : Nat → tA → Int32 → Prop
  | 0, _, _ => False
  | f31 + 1, Ar, y1_5 =>
    (((48 : Int32) ≤ y1_5 → (Kx67_5 Ar)) ∧ (¬ (48 : Int32) ≤ y1_5 → vp_in y1_5 48 ∧ vp_in y1_5 48 ∧ ∀ Ar_7 : tA, Ar_7 = aset Ar 22 y1_5.toNatClampNeg (Ar 0 y1_5.toNatClampNeg) → vp_in y1_5 48 ∧ vp_in y1_5 48 ∧ ∀ Ar_8 : tA, Ar_8 = aset Ar_7 23 y1_5.toNatClampNeg (Ar_7 1 y1_5.toNatClampNeg) → ((wm_image_L31 F Kx67_5 Q f31) Ar_8 (y1_5 + 1))))
set_option maxHeartbeats 4000000 in
theorem kwm_image_L31 {Q : Int32 → tF → tA → Prop} (X : mCx p s m args meth c cX7_image 2 D cl ci dA dL) (hr : meth.sig.returnType = (some .int)) (F : tF) (Kx67_5 : tA → Prop) (hKx67_5 : ∀ (Ar_ : tA) (H : Heap) (locs : List Loc) (ls : Array Slot), mP D cl (mReg ad) ci dA dL ad s.heap F Ar_ H locs → lv_has ls 2 [(0, .ref (ad 0))] → Kx67_5 Ar_ → W p l e ({ frames := 0, cells := 0, slots := 0, locals := 0 }) s m args below meth c H locs 0 0 (MQ below (mQi D cl ci dA dL ad Q) args s 0 0 (mReg ad)) (F0 m 67 ls [])) : ∀ (n : Nat) (Ar : tA) (y1_5 : Int32) (H : Heap) (locs : List Loc) (ls : Array Slot), mP D cl (mReg ad) ci dA dL ad s.heap F Ar H locs → lv_has ls 2 [(0, .ref (ad 0)), (1, .int y1_5)] → wm_image_L31 F Kx67_5 Q n Ar y1_5 → W p l e ({ frames := 0, cells := 0, slots := 0, locals := 0 }) s m args below meth c H locs 0 0 (MQ below (mQi D cl ci dA dL ad Q) args s 0 0 (mReg ad)) (F0 m 31 ls []) := by
  obtain ⟨hx, hb, hml, hown, hts, -, -, hlk⟩ := id X
  have S : CallFix p m c _ _ s args lw_all RX7 := ⟨hx, hb, hml, hown, hts⟩
  intro n
  induction n with
  | zero =>
    intro Ar y1_5 H locs ls P hl hw
    exact hw.elim
  | succ n ih =>
    intro Ar y1_5 H locs ls P hl hw
    have hKh31_5 := ih
    refine lv_iload_n hx hb dX7_image_31 rfl (lv_at hl 1 rfl) ?_
    refine lv_bipush (v := 48) hx hb dX7_image_32 (by decide) ?_
    refine lv_icmp_ge (tgt := 67) hx hb dX7_image_34 (by decide) (fun c_6 => ?_) (fun c_6 => ?_)
    · replace hw := hw.1 c_6
      exact hKx67_5 _ _ _ _ P (lv_sub hl [0] rfl) hw
    · replace hw := hw.2 c_6
      refine lv_aload_n hx hb dX7_image_37 rfl (lv_at hl 0 rfl) ?_
      refine mg_imageRate X P dX7_image_38 ?_
      refine lv_iload_n hx hb dX7_image_41 rfl (lv_at hl 1 rfl) ?_
      refine lv_aload_n hx hb dX7_image_42 rfl (lv_at hl 0 rfl) ?_
      refine mg_rate X P dX7_image_43 ?_
      refine lv_iload_n hx hb dX7_image_46 rfl (lv_at hl 1 rfl) ?_
      refine m_iald X P 0 rfl (by decide) hw.1 dX7_image_47 ?_
      replace hw := hw.2
      refine m_iast X P 22 rfl (by decide) hw.1 dX7_image_48 (fun Ar_7 H locs eAr_7 P => ?_)
      replace hw := hw.2
      replace hw := hw Ar_7 eAr_7
      refine lv_aload_n hx hb dX7_image_49 rfl (lv_at hl 0 rfl) ?_
      refine mg_imageToll X P dX7_image_50 ?_
      refine lv_iload_n hx hb dX7_image_53 rfl (lv_at hl 1 rfl) ?_
      refine lv_aload_n hx hb dX7_image_54 rfl (lv_at hl 0 rfl) ?_
      refine mg_toll X P dX7_image_55 ?_
      refine lv_iload_n hx hb dX7_image_58 rfl (lv_at hl 1 rfl) ?_
      refine m_iald X P 1 rfl (by decide) hw.1 dX7_image_59 ?_
      replace hw := hw.2
      refine m_iast X P 23 rfl (by decide) hw.1 dX7_image_60 (fun Ar_8 H locs eAr_8 P => ?_)
      replace hw := hw.2
      replace hw := hw Ar_8 eAr_8
      refine lv_iinc (v := (y1_5 + 1)) (lv' := [(1, .int (y1_5 + 1)), (0, .ref (ad 0))]) hx hb dX7_image_61 hl (k := 1) rfl rfl (by decide) rfl (fun ls hl => ?_)
      refine lv_goto (tgt := 31) hx hb dX7_image_64 (by decide) ?_
      exact hKh31_5 _ _ _ _ _ P (lv_sub hl [1, 0] rfl) hw
def wm_image_L69 (F : tF) (Kx92_10 : tA → Prop) (Q : Int32 → tF → tA → Prop) : Nat → tA → Int32 → Prop
  | 0, _, _ => False
  | f69 + 1, Ar, y1_10 =>
    (((4 : Int32) ≤ y1_10 → (Kx92_10 Ar)) ∧ (¬ (4 : Int32) ≤ y1_10 → vp_in y1_10 4 ∧ vp_in y1_10 4 ∧ ∀ Ar_12 : tA, Ar_12 = aset Ar 24 y1_10.toNatClampNeg (Ar 3 y1_10.toNatClampNeg) → ((wm_image_L69 F Kx92_10 Q f69) Ar_12 (y1_10 + 1))))
set_option maxHeartbeats 4000000 in
theorem kwm_image_L69 {Q : Int32 → tF → tA → Prop} (X : mCx p s m args meth c cX7_image 2 D cl ci dA dL) (hr : meth.sig.returnType = (some .int)) (F : tF) (Kx92_10 : tA → Prop) (hKx92_10 : ∀ (Ar_ : tA) (H : Heap) (locs : List Loc) (ls : Array Slot), mP D cl (mReg ad) ci dA dL ad s.heap F Ar_ H locs → lv_has ls 2 [(0, .ref (ad 0))] → Kx92_10 Ar_ → W p l e ({ frames := 0, cells := 0, slots := 0, locals := 0 }) s m args below meth c H locs 0 0 (MQ below (mQi D cl ci dA dL ad Q) args s 0 0 (mReg ad)) (F0 m 92 ls [])) : ∀ (n : Nat) (Ar : tA) (y1_10 : Int32) (H : Heap) (locs : List Loc) (ls : Array Slot), mP D cl (mReg ad) ci dA dL ad s.heap F Ar H locs → lv_has ls 2 [(0, .ref (ad 0)), (1, .int y1_10)] → wm_image_L69 F Kx92_10 Q n Ar y1_10 → W p l e ({ frames := 0, cells := 0, slots := 0, locals := 0 }) s m args below meth c H locs 0 0 (MQ below (mQi D cl ci dA dL ad Q) args s 0 0 (mReg ad)) (F0 m 69 ls []) := by
  obtain ⟨hx, hb, hml, hown, hts, -, -, hlk⟩ := id X
  have S : CallFix p m c _ _ s args lw_all RX7 := ⟨hx, hb, hml, hown, hts⟩
  intro n
  induction n with
  | zero =>
    intro Ar y1_10 H locs ls P hl hw
    exact hw.elim
  | succ n ih =>
    intro Ar y1_10 H locs ls P hl hw
    have hKh69_10 := ih
    refine lv_iload_n hx hb dX7_image_69 rfl (lv_at hl 1 rfl) ?_
    refine lv_iconst (v := 4) hx hb dX7_image_70 (by decide) ?_
    refine lv_icmp_ge (tgt := 92) hx hb dX7_image_71 (by decide) (fun c_11 => ?_) (fun c_11 => ?_)
    · replace hw := hw.1 c_11
      exact hKx92_10 _ _ _ _ P (lv_sub hl [0] rfl) hw
    · replace hw := hw.2 c_11
      refine lv_aload_n hx hb dX7_image_74 rfl (lv_at hl 0 rfl) ?_
      refine mg_imageWished X P dX7_image_75 ?_
      refine lv_iload_n hx hb dX7_image_78 rfl (lv_at hl 1 rfl) ?_
      refine lv_aload_n hx hb dX7_image_79 rfl (lv_at hl 0 rfl) ?_
      refine mg_wished X P dX7_image_80 ?_
      refine lv_iload_n hx hb dX7_image_83 rfl (lv_at hl 1 rfl) ?_
      refine m_iald X P 3 rfl (by decide) hw.1 dX7_image_84 ?_
      replace hw := hw.2
      refine m_iast X P 24 rfl (by decide) hw.1 dX7_image_85 (fun Ar_12 H locs eAr_12 P => ?_)
      replace hw := hw.2
      replace hw := hw Ar_12 eAr_12
      refine lv_iinc (v := (y1_10 + 1)) (lv' := [(1, .int (y1_10 + 1)), (0, .ref (ad 0))]) hx hb dX7_image_86 hl (k := 1) rfl rfl (by decide) rfl (fun ls hl => ?_)
      refine lv_goto (tgt := 69) hx hb dX7_image_89 (by decide) ?_
      exact hKh69_10 _ _ _ _ _ P (lv_sub hl [1, 0] rfl) hw
def wm_image_L94 (F : tF) (Kx119_14 : tA → Prop) (Q : Int32 → tF → tA → Prop) : Nat → tA → Int32 → Prop
  | 0, _, _ => False
  | f94 + 1, Ar, y1_14 =>
    (((128 : Int32) ≤ y1_14 → (Kx119_14 Ar)) ∧ (¬ (128 : Int32) ≤ y1_14 → vp_in y1_14 128 ∧ vp_in y1_14 128 ∧ ∀ Ar_16 : tA, Ar_16 = aset Ar 25 y1_14.toNatClampNeg (Ar 11 y1_14.toNatClampNeg) → ((wm_image_L94 F Kx119_14 Q f94) Ar_16 (y1_14 + 1))))
set_option maxHeartbeats 4000000 in
theorem kwm_image_L94 {Q : Int32 → tF → tA → Prop} (X : mCx p s m args meth c cX7_image 2 D cl ci dA dL) (hr : meth.sig.returnType = (some .int)) (F : tF) (Kx119_14 : tA → Prop) (hKx119_14 : ∀ (Ar_ : tA) (H : Heap) (locs : List Loc) (ls : Array Slot), mP D cl (mReg ad) ci dA dL ad s.heap F Ar_ H locs → lv_has ls 2 [(0, .ref (ad 0))] → Kx119_14 Ar_ → W p l e ({ frames := 0, cells := 0, slots := 0, locals := 0 }) s m args below meth c H locs 0 0 (MQ below (mQi D cl ci dA dL ad Q) args s 0 0 (mReg ad)) (F0 m 119 ls [])) : ∀ (n : Nat) (Ar : tA) (y1_14 : Int32) (H : Heap) (locs : List Loc) (ls : Array Slot), mP D cl (mReg ad) ci dA dL ad s.heap F Ar H locs → lv_has ls 2 [(0, .ref (ad 0)), (1, .int y1_14)] → wm_image_L94 F Kx119_14 Q n Ar y1_14 → W p l e ({ frames := 0, cells := 0, slots := 0, locals := 0 }) s m args below meth c H locs 0 0 (MQ below (mQi D cl ci dA dL ad Q) args s 0 0 (mReg ad)) (F0 m 94 ls []) := by
  obtain ⟨hx, hb, hml, hown, hts, -, -, hlk⟩ := id X
  have S : CallFix p m c _ _ s args lw_all RX7 := ⟨hx, hb, hml, hown, hts⟩
  intro n
  induction n with
  | zero =>
    intro Ar y1_14 H locs ls P hl hw
    exact hw.elim
  | succ n ih =>
    intro Ar y1_14 H locs ls P hl hw
    have hKh94_14 := ih
    refine lv_iload_n hx hb dX7_image_94 rfl (lv_at hl 1 rfl) ?_
    refine lv_sipush (v := 128) hx hb dX7_image_95 (by decide) ?_
    refine lv_icmp_ge (tgt := 119) hx hb dX7_image_98 (by decide) (fun c_15 => ?_) (fun c_15 => ?_)
    · replace hw := hw.1 c_15
      exact hKx119_14 _ _ _ _ P (lv_sub hl [0] rfl) hw
    · replace hw := hw.2 c_15
      refine lv_aload_n hx hb dX7_image_101 rfl (lv_at hl 0 rfl) ?_
      refine mg_imageChoice X P dX7_image_102 ?_
      refine lv_iload_n hx hb dX7_image_105 rfl (lv_at hl 1 rfl) ?_
      refine lv_aload_n hx hb dX7_image_106 rfl (lv_at hl 0 rfl) ?_
      refine mg_choice X P dX7_image_107 ?_
      refine lv_iload_n hx hb dX7_image_110 rfl (lv_at hl 1 rfl) ?_
      refine m_iald X P 11 rfl (by decide) hw.1 dX7_image_111 ?_
      replace hw := hw.2
      refine m_iast X P 25 rfl (by decide) hw.1 dX7_image_112 (fun Ar_16 H locs eAr_16 P => ?_)
      replace hw := hw.2
      replace hw := hw Ar_16 eAr_16
      refine lv_iinc (v := (y1_14 + 1)) (lv' := [(1, .int (y1_14 + 1)), (0, .ref (ad 0))]) hx hb dX7_image_113 hl (k := 1) rfl rfl (by decide) rfl (fun ls hl => ?_)
      refine lv_goto (tgt := 94) hx hb dX7_image_116 (by decide) ?_
      exact hKh94_14 _ _ _ _ _ P (lv_sub hl [1, 0] rfl) hw
def wm_image (F : tF) (Ar : tA) (Q : Int32 → tF → tA → Prop) : Prop :=
  ∀ F_1 : tF, F_1 = upd F 18 1 → ∀ F_2 : tF, F_2 = upd F_1 19 (F_1 2) → ∀ F_3 : tF, F_3 = upd F_2 20 (F_2 8) → ∀ F_4 : tF, F_4 = upd F_3 21 (F_3 17) → (∃ n31, wm_image_L31 F_4 (fun (Ar_9 : tA) => (∃ n69, wm_image_L69 F_4 (fun (Ar_13 : tA) => (∃ n94, wm_image_L94 F_4 (fun (Ar_17 : tA) => Q (F_4 8) F_4 Ar_17) Q n94 Ar_13 0)) Q n69 Ar_9 0)) Q n31 Ar 0)
set_option maxHeartbeats 4000000 in
theorem twm_image (l : Launch) (D : va_G) (cl : List vw_C) (ci : Nat) (dA dL : ClassId) (ad : Nat → Nat) (F : tF) (Ar : tA) (Q : Int32 → tF → tA → Prop) (hw : wm_image F Ar  Q) : Met l yX7_image (ws_ yX7_image cX7_image 2 (some .int)) ({ frames := 0, cells := 0, slots := 0, locals := 0 }) (mPc D cl ci dA dL ad F Ar []) (mQi D cl ci dA dL ad Q) 0 0 (mReg ad) := by
  refine m_entry (by decide) rfl (Nat.le_of_ble_eq_true rfl) ?_
  intro p e s m below meth c ls X hr P hl
  obtain ⟨hx, hb, hml, hown, hts, -, -, hlk⟩ := id X
  have S : CallFix p m c _ _ s _ lw_all RX7 := ⟨hx, hb, hml, hown, hts⟩
  have hl : lv_has ls 2 [(0, .ref (ad 0))] := hl
  refine lv_aload_n hx hb dX7_image_0 rfl (lv_at hl 0 rfl) ?_
  refine lv_iconst (v := 1) hx hb dX7_image_1 (by decide) ?_
  refine mp_hasImage X P rfl rfl dX7_image_2 (fun F_1 H locs eF_1 P => ?_)
  replace hw := hw F_1 eF_1
  refine lv_aload_n hx hb dX7_image_5 rfl (lv_at hl 0 rfl) ?_
  refine lv_aload_n hx hb dX7_image_6 rfl (lv_at hl 0 rfl) ?_
  refine mg_sorts X P dX7_image_7 ?_
  refine mp_imageSorts X P dX7_image_10 (fun F_2 H locs eF_2 P => ?_)
  replace hw := hw F_2 eF_2
  refine lv_aload_n hx hb dX7_image_13 rfl (lv_at hl 0 rfl) ?_
  refine lv_aload_n hx hb dX7_image_14 rfl (lv_at hl 0 rfl) ?_
  refine mg_ways X P dX7_image_15 ?_
  refine mp_imageWays X P dX7_image_18 (fun F_3 H locs eF_3 P => ?_)
  replace hw := hw F_3 eF_3
  refine lv_aload_n hx hb dX7_image_21 rfl (lv_at hl 0 rfl) ?_
  refine lv_aload_n hx hb dX7_image_22 rfl (lv_at hl 0 rfl) ?_
  refine mg_rule X P dX7_image_23 ?_
  refine mp_imageRule X P dX7_image_26 (fun F_4 H locs eF_4 P => ?_)
  replace hw := hw F_4 eF_4
  refine lv_iconst (v := 0) hx hb dX7_image_29 (by decide) ?_
  refine lv_istore_n (lv' := [(1, .int 0), (0, .ref (ad 0))]) hx hb dX7_image_30 rfl hl (by decide) rfl (fun ls hl => ?_)
  obtain ⟨n_20, hw⟩ := hw
  refine kwm_image_L31 X hr _ _   ?_ n_20 _ _ _ _ _ P (lv_sub hl [1, 0] rfl) hw
  · intro Ar_9 H locs ls P hl hw
    refine lv_iconst (v := 0) hx hb dX7_image_67 (by decide) ?_
    refine lv_istore_n (lv' := [(1, .int 0), (0, .ref (ad 0))]) hx hb dX7_image_68 rfl hl (by decide) rfl (fun ls hl => ?_)
    obtain ⟨n_19, hw⟩ := hw
    refine kwm_image_L69 X hr _ _   ?_ n_19 _ _ _ _ _ P (lv_sub hl [1, 0] rfl) hw
    · intro Ar_13 H locs ls P hl hw
      refine lv_iconst (v := 0) hx hb dX7_image_92 (by decide) ?_
      refine lv_istore_n (lv' := [(1, .int 0), (0, .ref (ad 0))]) hx hb dX7_image_93 rfl hl (by decide) rfl (fun ls hl => ?_)
      obtain ⟨n_18, hw⟩ := hw
      refine kwm_image_L94 X hr _ _   ?_ n_18 _ _ _ _ _ P (lv_sub hl [1, 0] rfl) hw
      · intro Ar_17 H locs ls P hl hw
        refine lv_aload_n hx hb dX7_image_119 rfl (lv_at hl 0 rfl) ?_
        refine mg_ways X P dX7_image_120 ?_
        exact m_iret X P hr hw dX7_image_123
-- back
def wm_back_L20 (F : tF) (Kx56_3 : tA → Prop) (Q : Int32 → tF → tA → Prop) : Nat → tA → Int32 → Prop
  | 0, _, _ => False
  | f20 + 1, Ar, y1_3 =>
    (((48 : Int32) ≤ y1_3 → (Kx56_3 Ar)) ∧ (¬ (48 : Int32) ≤ y1_3 → vp_in y1_3 48 ∧ vp_in y1_3 48 ∧ ∀ Ar_5 : tA, Ar_5 = aset Ar 0 y1_3.toNatClampNeg (Ar 22 y1_3.toNatClampNeg) → vp_in y1_3 48 ∧ vp_in y1_3 48 ∧ ∀ Ar_6 : tA, Ar_6 = aset Ar_5 1 y1_3.toNatClampNeg (Ar_5 23 y1_3.toNatClampNeg) → ((wm_back_L20 F Kx56_3 Q f20) Ar_6 (y1_3 + 1))))
set_option maxHeartbeats 4000000 in
theorem kwm_back_L20 {Q : Int32 → tF → tA → Prop} (X : mCx p s m args meth c cX7_back 2 D cl ci dA dL) (hr : meth.sig.returnType = (some .int)) (F : tF) (Kx56_3 : tA → Prop) (hKx56_3 : ∀ (Ar_ : tA) (H : Heap) (locs : List Loc) (ls : Array Slot), mP D cl (mReg ad) ci dA dL ad s.heap F Ar_ H locs → lv_has ls 2 [(0, .ref (ad 0))] → Kx56_3 Ar_ → W p l e ({ frames := 0, cells := 0, slots := 0, locals := 0 }) s m args below meth c H locs 0 0 (MQ below (mQi D cl ci dA dL ad Q) args s 0 0 (mReg ad)) (F0 m 56 ls [])) : ∀ (n : Nat) (Ar : tA) (y1_3 : Int32) (H : Heap) (locs : List Loc) (ls : Array Slot), mP D cl (mReg ad) ci dA dL ad s.heap F Ar H locs → lv_has ls 2 [(0, .ref (ad 0)), (1, .int y1_3)] → wm_back_L20 F Kx56_3 Q n Ar y1_3 → W p l e ({ frames := 0, cells := 0, slots := 0, locals := 0 }) s m args below meth c H locs 0 0 (MQ below (mQi D cl ci dA dL ad Q) args s 0 0 (mReg ad)) (F0 m 20 ls []) := by
  obtain ⟨hx, hb, hml, hown, hts, -, -, hlk⟩ := id X
  have S : CallFix p m c _ _ s args lw_all RX7 := ⟨hx, hb, hml, hown, hts⟩
  intro n
  induction n with
  | zero =>
    intro Ar y1_3 H locs ls P hl hw
    exact hw.elim
  | succ n ih =>
    intro Ar y1_3 H locs ls P hl hw
    have hKh20_3 := ih
    refine lv_iload_n hx hb dX7_back_20 rfl (lv_at hl 1 rfl) ?_
    refine lv_bipush (v := 48) hx hb dX7_back_21 (by decide) ?_
    refine lv_icmp_ge (tgt := 56) hx hb dX7_back_23 (by decide) (fun c_4 => ?_) (fun c_4 => ?_)
    · replace hw := hw.1 c_4
      exact hKx56_3 _ _ _ _ P (lv_sub hl [0] rfl) hw
    · replace hw := hw.2 c_4
      refine lv_aload_n hx hb dX7_back_26 rfl (lv_at hl 0 rfl) ?_
      refine mg_rate X P dX7_back_27 ?_
      refine lv_iload_n hx hb dX7_back_30 rfl (lv_at hl 1 rfl) ?_
      refine lv_aload_n hx hb dX7_back_31 rfl (lv_at hl 0 rfl) ?_
      refine mg_imageRate X P dX7_back_32 ?_
      refine lv_iload_n hx hb dX7_back_35 rfl (lv_at hl 1 rfl) ?_
      refine m_iald X P 22 rfl (by decide) hw.1 dX7_back_36 ?_
      replace hw := hw.2
      refine m_iast X P 0 rfl (by decide) hw.1 dX7_back_37 (fun Ar_5 H locs eAr_5 P => ?_)
      replace hw := hw.2
      replace hw := hw Ar_5 eAr_5
      refine lv_aload_n hx hb dX7_back_38 rfl (lv_at hl 0 rfl) ?_
      refine mg_toll X P dX7_back_39 ?_
      refine lv_iload_n hx hb dX7_back_42 rfl (lv_at hl 1 rfl) ?_
      refine lv_aload_n hx hb dX7_back_43 rfl (lv_at hl 0 rfl) ?_
      refine mg_imageToll X P dX7_back_44 ?_
      refine lv_iload_n hx hb dX7_back_47 rfl (lv_at hl 1 rfl) ?_
      refine m_iald X P 23 rfl (by decide) hw.1 dX7_back_48 ?_
      replace hw := hw.2
      refine m_iast X P 1 rfl (by decide) hw.1 dX7_back_49 (fun Ar_6 H locs eAr_6 P => ?_)
      replace hw := hw.2
      replace hw := hw Ar_6 eAr_6
      refine lv_iinc (v := (y1_3 + 1)) (lv' := [(1, .int (y1_3 + 1)), (0, .ref (ad 0))]) hx hb dX7_back_50 hl (k := 1) rfl rfl (by decide) rfl (fun ls hl => ?_)
      refine lv_goto (tgt := 20) hx hb dX7_back_53 (by decide) ?_
      exact hKh20_3 _ _ _ _ _ P (lv_sub hl [1, 0] rfl) hw
def wm_back_L58 (F : tF) (Kx84_8 : tA → Prop) (Q : Int32 → tF → tA → Prop) : Nat → tA → Int32 → Prop
  | 0, _, _ => False
  | f58 + 1, Ar, y1_8 =>
    (((F 19) ≤ y1_8 → (Kx84_8 Ar)) ∧ (¬ (F 19) ≤ y1_8 → vp_in y1_8 4 ∧ vp_in y1_8 4 ∧ ∀ Ar_10 : tA, Ar_10 = aset Ar 3 y1_8.toNatClampNeg (Ar 24 y1_8.toNatClampNeg) → ((wm_back_L58 F Kx84_8 Q f58) Ar_10 (y1_8 + 1))))
set_option maxHeartbeats 4000000 in
theorem kwm_back_L58 {Q : Int32 → tF → tA → Prop} (X : mCx p s m args meth c cX7_back 2 D cl ci dA dL) (hr : meth.sig.returnType = (some .int)) (F : tF) (Kx84_8 : tA → Prop) (hKx84_8 : ∀ (Ar_ : tA) (H : Heap) (locs : List Loc) (ls : Array Slot), mP D cl (mReg ad) ci dA dL ad s.heap F Ar_ H locs → lv_has ls 2 [(0, .ref (ad 0))] → Kx84_8 Ar_ → W p l e ({ frames := 0, cells := 0, slots := 0, locals := 0 }) s m args below meth c H locs 0 0 (MQ below (mQi D cl ci dA dL ad Q) args s 0 0 (mReg ad)) (F0 m 84 ls [])) : ∀ (n : Nat) (Ar : tA) (y1_8 : Int32) (H : Heap) (locs : List Loc) (ls : Array Slot), mP D cl (mReg ad) ci dA dL ad s.heap F Ar H locs → lv_has ls 2 [(0, .ref (ad 0)), (1, .int y1_8)] → wm_back_L58 F Kx84_8 Q n Ar y1_8 → W p l e ({ frames := 0, cells := 0, slots := 0, locals := 0 }) s m args below meth c H locs 0 0 (MQ below (mQi D cl ci dA dL ad Q) args s 0 0 (mReg ad)) (F0 m 58 ls []) := by
  obtain ⟨hx, hb, hml, hown, hts, -, -, hlk⟩ := id X
  have S : CallFix p m c _ _ s args lw_all RX7 := ⟨hx, hb, hml, hown, hts⟩
  intro n
  induction n with
  | zero =>
    intro Ar y1_8 H locs ls P hl hw
    exact hw.elim
  | succ n ih =>
    intro Ar y1_8 H locs ls P hl hw
    have hKh58_8 := ih
    refine lv_iload_n hx hb dX7_back_58 rfl (lv_at hl 1 rfl) ?_
    refine lv_aload_n hx hb dX7_back_59 rfl (lv_at hl 0 rfl) ?_
    refine mg_imageSorts X P dX7_back_60 ?_
    refine lv_icmp_ge (tgt := 84) hx hb dX7_back_63 (by decide) (fun c_9 => ?_) (fun c_9 => ?_)
    · replace hw := hw.1 c_9
      exact hKx84_8 _ _ _ _ P (lv_sub hl [0] rfl) hw
    · replace hw := hw.2 c_9
      refine lv_aload_n hx hb dX7_back_66 rfl (lv_at hl 0 rfl) ?_
      refine mg_wished X P dX7_back_67 ?_
      refine lv_iload_n hx hb dX7_back_70 rfl (lv_at hl 1 rfl) ?_
      refine lv_aload_n hx hb dX7_back_71 rfl (lv_at hl 0 rfl) ?_
      refine mg_imageWished X P dX7_back_72 ?_
      refine lv_iload_n hx hb dX7_back_75 rfl (lv_at hl 1 rfl) ?_
      refine m_iald X P 24 rfl (by decide) hw.1 dX7_back_76 ?_
      replace hw := hw.2
      refine m_iast X P 3 rfl (by decide) hw.1 dX7_back_77 (fun Ar_10 H locs eAr_10 P => ?_)
      replace hw := hw.2
      replace hw := hw Ar_10 eAr_10
      refine lv_iinc (v := (y1_8 + 1)) (lv' := [(1, .int (y1_8 + 1)), (0, .ref (ad 0))]) hx hb dX7_back_78 hl (k := 1) rfl rfl (by decide) rfl (fun ls hl => ?_)
      refine lv_goto (tgt := 58) hx hb dX7_back_81 (by decide) ?_
      exact hKh58_8 _ _ _ _ _ P (lv_sub hl [1, 0] rfl) hw
def wm_back_L86 (F : tF) (Kx115_12 : tA → Prop) (Q : Int32 → tF → tA → Prop) : Nat → tA → Int32 → Prop
  | 0, _, _ => False
  | f86 + 1, Ar, y1_12 =>
    (((16 * (F 20)) ≤ y1_12 → (Kx115_12 Ar)) ∧ (¬ (16 * (F 20)) ≤ y1_12 → vp_in y1_12 128 ∧ vp_in y1_12 128 ∧ ∀ Ar_14 : tA, Ar_14 = aset Ar 11 y1_12.toNatClampNeg (Ar 25 y1_12.toNatClampNeg) → ((wm_back_L86 F Kx115_12 Q f86) Ar_14 (y1_12 + 1))))
set_option maxHeartbeats 4000000 in
theorem kwm_back_L86 {Q : Int32 → tF → tA → Prop} (X : mCx p s m args meth c cX7_back 2 D cl ci dA dL) (hr : meth.sig.returnType = (some .int)) (F : tF) (Kx115_12 : tA → Prop) (hKx115_12 : ∀ (Ar_ : tA) (H : Heap) (locs : List Loc) (ls : Array Slot), mP D cl (mReg ad) ci dA dL ad s.heap F Ar_ H locs → lv_has ls 2 [(0, .ref (ad 0))] → Kx115_12 Ar_ → W p l e ({ frames := 0, cells := 0, slots := 0, locals := 0 }) s m args below meth c H locs 0 0 (MQ below (mQi D cl ci dA dL ad Q) args s 0 0 (mReg ad)) (F0 m 115 ls [])) : ∀ (n : Nat) (Ar : tA) (y1_12 : Int32) (H : Heap) (locs : List Loc) (ls : Array Slot), mP D cl (mReg ad) ci dA dL ad s.heap F Ar H locs → lv_has ls 2 [(0, .ref (ad 0)), (1, .int y1_12)] → wm_back_L86 F Kx115_12 Q n Ar y1_12 → W p l e ({ frames := 0, cells := 0, slots := 0, locals := 0 }) s m args below meth c H locs 0 0 (MQ below (mQi D cl ci dA dL ad Q) args s 0 0 (mReg ad)) (F0 m 86 ls []) := by
  obtain ⟨hx, hb, hml, hown, hts, -, -, hlk⟩ := id X
  have S : CallFix p m c _ _ s args lw_all RX7 := ⟨hx, hb, hml, hown, hts⟩
  intro n
  induction n with
  | zero =>
    intro Ar y1_12 H locs ls P hl hw
    exact hw.elim
  | succ n ih =>
    intro Ar y1_12 H locs ls P hl hw
    have hKh86_12 := ih
    refine lv_iload_n hx hb dX7_back_86 rfl (lv_at hl 1 rfl) ?_
    refine lv_bipush (v := 16) hx hb dX7_back_87 (by decide) ?_
    refine lv_aload_n hx hb dX7_back_89 rfl (lv_at hl 0 rfl) ?_
    refine mg_imageWays X P dX7_back_90 ?_
    refine lv_imul hx hb dX7_back_93 ?_
    refine lv_icmp_ge (tgt := 115) hx hb dX7_back_94 (by decide) (fun c_13 => ?_) (fun c_13 => ?_)
    · replace hw := hw.1 c_13
      exact hKx115_12 _ _ _ _ P (lv_sub hl [0] rfl) hw
    · replace hw := hw.2 c_13
      refine lv_aload_n hx hb dX7_back_97 rfl (lv_at hl 0 rfl) ?_
      refine mg_choice X P dX7_back_98 ?_
      refine lv_iload_n hx hb dX7_back_101 rfl (lv_at hl 1 rfl) ?_
      refine lv_aload_n hx hb dX7_back_102 rfl (lv_at hl 0 rfl) ?_
      refine mg_imageChoice X P dX7_back_103 ?_
      refine lv_iload_n hx hb dX7_back_106 rfl (lv_at hl 1 rfl) ?_
      refine m_iald X P 25 rfl (by decide) hw.1 dX7_back_107 ?_
      replace hw := hw.2
      refine m_iast X P 11 rfl (by decide) hw.1 dX7_back_108 (fun Ar_14 H locs eAr_14 P => ?_)
      replace hw := hw.2
      replace hw := hw Ar_14 eAr_14
      refine lv_iinc (v := (y1_12 + 1)) (lv' := [(1, .int (y1_12 + 1)), (0, .ref (ad 0))]) hx hb dX7_back_109 hl (k := 1) rfl rfl (by decide) rfl (fun ls hl => ?_)
      refine lv_goto (tgt := 86) hx hb dX7_back_112 (by decide) ?_
      exact hKh86_12 _ _ _ _ _ P (lv_sub hl [1, 0] rfl) hw
def wm_back (F : tF) (Ar : tA) (Q : Int32 → tF → tA → Prop) : Prop :=
  ((¬ (F 18) = 0 → ∀ F_2 : tF, F_2 = upd F 17 (F 21) → (∃ n20, wm_back_L20 F_2 (fun (Ar_7 : tA) => (∃ n58, wm_back_L58 F_2 (fun (Ar_11 : tA) => (∃ n86, wm_back_L86 F_2 (fun (Ar_15 : tA) => Q (F_2 8) F_2 Ar_15) Q n86 Ar_11 0)) Q n58 Ar_7 0)) Q n20 Ar 0)) ∧ ((F 18) = 0 → Q (-3) F Ar))
set_option maxHeartbeats 4000000 in
theorem twm_back (l : Launch) (D : va_G) (cl : List vw_C) (ci : Nat) (dA dL : ClassId) (ad : Nat → Nat) (F : tF) (Ar : tA) (Q : Int32 → tF → tA → Prop) (hw : wm_back F Ar  Q) : Met l yX7_back (ws_ yX7_back cX7_back 2 (some .int)) ({ frames := 0, cells := 0, slots := 0, locals := 0 }) (mPc D cl ci dA dL ad F Ar []) (mQi D cl ci dA dL ad Q) 0 0 (mReg ad) := by
  refine m_entry (by decide) rfl (Nat.le_of_ble_eq_true rfl) ?_
  intro p e s m below meth c ls X hr P hl
  obtain ⟨hx, hb, hml, hown, hts, -, -, hlk⟩ := id X
  have S : CallFix p m c _ _ s _ lw_all RX7 := ⟨hx, hb, hml, hown, hts⟩
  have hl : lv_has ls 2 [(0, .ref (ad 0))] := hl
  refine lv_aload_n hx hb dX7_back_0 rfl (lv_at hl 0 rfl) ?_
  refine mg_hasImage X P dX7_back_1 ?_
  refine lv_if_ne (tgt := 10) hx hb dX7_back_4 (by decide) (fun c_1 => ?_) (fun c_1 => ?_)
  · replace hw := hw.1 c_1
    refine lv_aload_n hx hb dX7_back_10 rfl (lv_at hl 0 rfl) ?_
    refine lv_aload_n hx hb dX7_back_11 rfl (lv_at hl 0 rfl) ?_
    refine mg_imageRule X P dX7_back_12 ?_
    refine mp_rule X P dX7_back_15 (fun F_2 H locs eF_2 P => ?_)
    replace hw := hw F_2 eF_2
    refine lv_iconst (v := 0) hx hb dX7_back_18 (by decide) ?_
    refine lv_istore_n (lv' := [(1, .int 0), (0, .ref (ad 0))]) hx hb dX7_back_19 rfl hl (by decide) rfl (fun ls hl => ?_)
    obtain ⟨n_18, hw⟩ := hw
    refine kwm_back_L20 X hr _ _   ?_ n_18 _ _ _ _ _ P (lv_sub hl [1, 0] rfl) hw
    · intro Ar_7 H locs ls P hl hw
      refine lv_iconst (v := 0) hx hb dX7_back_56 (by decide) ?_
      refine lv_istore_n (lv' := [(1, .int 0), (0, .ref (ad 0))]) hx hb dX7_back_57 rfl hl (by decide) rfl (fun ls hl => ?_)
      obtain ⟨n_17, hw⟩ := hw
      refine kwm_back_L58 X hr _ _   ?_ n_17 _ _ _ _ _ P (lv_sub hl [1, 0] rfl) hw
      · intro Ar_11 H locs ls P hl hw
        refine lv_iconst (v := 0) hx hb dX7_back_84 (by decide) ?_
        refine lv_istore_n (lv' := [(1, .int 0), (0, .ref (ad 0))]) hx hb dX7_back_85 rfl hl (by decide) rfl (fun ls hl => ?_)
        obtain ⟨n_16, hw⟩ := hw
        refine kwm_back_L86 X hr _ _   ?_ n_16 _ _ _ _ _ P (lv_sub hl [1, 0] rfl) hw
        · intro Ar_15 H locs ls P hl hw
          refine lv_aload_n hx hb dX7_back_115 rfl (lv_at hl 0 rfl) ?_
          refine mg_ways X P dX7_back_116 ?_
          exact m_iret X P hr hw dX7_back_119
  · replace hw := hw.2 c_1
    refine lv_bipush (v := (-3)) hx hb dX7_back_7 (by decide) ?_
    exact m_iret X P hr hw dX7_back_9
-- sheet
def wm_sheet_L70 (F : tF) (y1_13 : Int32) (Q : Int32 → tF → tA → Prop) : Nat → tA → Int32 → Prop
  | 0, _, _ => False
  | f70 + 1, Ar, y4_13 =>
    (((40 : Int32) ≤ y4_13 → Q 1 F Ar) ∧ (¬ (40 : Int32) ≤ y4_13 → vp_in ((40 * y1_13) + y4_13) 160 ∧ ∀ Ar_15 : tA, Ar_15 = aset Ar 28 ((40 * y1_13) + y4_13).toNatClampNeg 0 → ((wm_sheet_L70 F y1_13 Q f70) Ar_15 (y4_13 + 1))))
set_option maxHeartbeats 4000000 in
theorem kwm_sheet_L70 {Q : Int32 → tF → tA → Prop} (X : mCx p s m args meth c cX7_sheet 5 D cl ci dA dL) (hr : meth.sig.returnType = (some .int)) (F : tF) (y1_13 : Int32) : ∀ (n : Nat) (Ar : tA) (y4_13 : Int32) (H : Heap) (locs : List Loc) (ls : Array Slot), mP D cl (mReg ad) ci dA dL ad s.heap F Ar H locs → lv_has ls 5 [(0, .ref (ad 0)), (1, .int y1_13), (4, .int y4_13)] → wm_sheet_L70 F y1_13 Q n Ar y4_13 → W p l e ({ frames := 1, cells := 0, slots := 0, locals := 22 }) s m args below meth c H locs 0 0 (MQ below (mQi D cl ci dA dL ad Q) args s 0 0 (mReg ad)) (F0 m 70 ls []) := by
  obtain ⟨hx, hb, hml, hown, hts, -, -, hlk⟩ := id X
  have S : CallFix p m c _ _ s args lw_all RX7 := ⟨hx, hb, hml, hown, hts⟩
  intro n
  induction n with
  | zero =>
    intro Ar y4_13 H locs ls P hl hw
    exact hw.elim
  | succ n ih =>
    intro Ar y4_13 H locs ls P hl hw
    have hKh70_13 := ih
    refine lv_iload hx hb dX7_sheet_70 (lv_at hl 2 rfl) ?_
    refine lv_bipush (v := 40) hx hb dX7_sheet_72 (by decide) ?_
    refine lv_icmp_ge (tgt := 96) hx hb dX7_sheet_74 (by decide) (fun c_14 => ?_) (fun c_14 => ?_)
    · replace hw := hw.1 c_14
      refine lv_iconst (v := 1) hx hb dX7_sheet_96 (by decide) ?_
      exact m_iret X P hr hw dX7_sheet_97
    · replace hw := hw.2 c_14
      refine lv_aload_n hx hb dX7_sheet_77 rfl (lv_at hl 0 rfl) ?_
      refine mg_cells X P dX7_sheet_78 ?_
      refine lv_bipush (v := 40) hx hb dX7_sheet_81 (by decide) ?_
      refine lv_iload_n hx hb dX7_sheet_83 rfl (lv_at hl 1 rfl) ?_
      refine lv_imul hx hb dX7_sheet_84 ?_
      refine lv_iload hx hb dX7_sheet_85 (lv_at hl 2 rfl) ?_
      refine lv_iadd hx hb dX7_sheet_87 ?_
      refine lv_iconst (v := 0) hx hb dX7_sheet_88 (by decide) ?_
      refine m_iast X P 28 rfl (by decide) hw.1 dX7_sheet_89 (fun Ar_15 H locs eAr_15 P => ?_)
      replace hw := hw.2
      replace hw := hw Ar_15 eAr_15
      refine lv_iinc (v := (y4_13 + 1)) (lv' := [(4, .int (y4_13 + 1)), (0, .ref (ad 0)), (1, .int y1_13)]) hx hb dX7_sheet_90 hl (k := 2) rfl rfl (by decide) rfl (fun ls hl => ?_)
      refine lv_goto (tgt := 70) hx hb dX7_sheet_93 (by decide) ?_
      exact hKh70_13 _ _ _ _ _ P (lv_sub hl [1, 2, 0] rfl) hw
def wm_sheet_J66 (F : tF) (Ar : tA) (y1_11 : Int32) (z0_11 : Int32) (z1_11 : Int32) (Q : Int32 → tF → tA → Prop) : Prop :=
  vp_in z1_11 4 ∧ ∀ Ar_12 : tA, Ar_12 = aset Ar 27 z1_11.toNatClampNeg z0_11 → (∃ n70, wm_sheet_L70 F y1_11 Q n70 Ar_12 0)
set_option maxHeartbeats 4000000 in
theorem kwm_sheet_J66 {Q : Int32 → tF → tA → Prop} (X : mCx p s m args meth c cX7_sheet 5 D cl ci dA dL) (hr : meth.sig.returnType = (some .int)) {F : tF} {Ar : tA} (y1_11 : Int32) (z0_11 : Int32) (z1_11 : Int32) {H : Heap} {locs : List Loc} {ls : Array Slot} (P : mP D cl (mReg ad) ci dA dL ad s.heap F Ar H locs) (hl : lv_has ls 5 [(0, .ref (ad 0)), (1, .int y1_11)]) (hw : wm_sheet_J66 F Ar y1_11 z0_11 z1_11 Q) : W p l e ({ frames := 1, cells := 0, slots := 0, locals := 22 }) s m args below meth c H locs 0 0 (MQ below (mQi D cl ci dA dL ad Q) args s 0 0 (mReg ad)) (F0 m 66 ls [.int z0_11, .int z1_11, .ref (ad 28)]) := by
  obtain ⟨hx, hb, hml, hown, hts, -, -, hlk⟩ := id X
  have S : CallFix p m c _ _ s args lw_all RX7 := ⟨hx, hb, hml, hown, hts⟩
  refine m_iast X P 27 rfl (by decide) hw.1 dX7_sheet_66 (fun Ar_12 H locs eAr_12 P => ?_)
  replace hw := hw.2
  replace hw := hw Ar_12 eAr_12
  refine lv_iconst (v := 0) hx hb dX7_sheet_67 (by decide) ?_
  refine lv_istore (lv' := [(4, .int 0), (0, .ref (ad 0)), (1, .int y1_11)]) hx hb dX7_sheet_68 hl (by decide) rfl (fun ls hl => ?_)
  obtain ⟨n_16, hw⟩ := hw
  refine kwm_sheet_L70 X hr _ _    n_16 _ _ _ _ _ P (lv_sub hl [1, 2, 0] rfl) hw
def wm_sheet_J44 (F : tF) (Ar : tA) (y1_8 : Int32) (y2_8 : Int32) (y3_8 : Int32) (Q : Int32 → tF → tA → Prop) : Prop :=
  vp_in y1_8 4 ∧ ∀ Ar_9 : tA, Ar_9 = aset Ar 26 y1_8.toNatClampNeg y2_8 → ((¬ y2_8 = (-1) → (wm_sheet_J66 F Ar_9 y1_8 y3_8 y1_8 Q)) ∧ (y2_8 = (-1) → (wm_sheet_J66 F Ar_9 y1_8 0 y1_8 Q)))
set_option maxHeartbeats 4000000 in
theorem kwm_sheet_J44 {Q : Int32 → tF → tA → Prop} (X : mCx p s m args meth c cX7_sheet 5 D cl ci dA dL) (hr : meth.sig.returnType = (some .int)) {F : tF} {Ar : tA} (y1_8 : Int32) (y2_8 : Int32) (y3_8 : Int32) {H : Heap} {locs : List Loc} {ls : Array Slot} (P : mP D cl (mReg ad) ci dA dL ad s.heap F Ar H locs) (hl : lv_has ls 5 [(0, .ref (ad 0)), (1, .int y1_8), (2, .int y2_8), (3, .int y3_8)]) (hw : wm_sheet_J44 F Ar y1_8 y2_8 y3_8 Q) : W p l e ({ frames := 1, cells := 0, slots := 0, locals := 22 }) s m args below meth c H locs 0 0 (MQ below (mQi D cl ci dA dL ad Q) args s 0 0 (mReg ad)) (F0 m 44 ls []) := by
  obtain ⟨hx, hb, hml, hown, hts, -, -, hlk⟩ := id X
  have S : CallFix p m c _ _ s args lw_all RX7 := ⟨hx, hb, hml, hown, hts⟩
  refine lv_aload_n hx hb dX7_sheet_44 rfl (lv_at hl 0 rfl) ?_
  refine mg_sheetSort X P dX7_sheet_45 ?_
  refine lv_iload_n hx hb dX7_sheet_48 rfl (lv_at hl 1 rfl) ?_
  refine lv_iload_n hx hb dX7_sheet_49 rfl (lv_at hl 2 rfl) ?_
  refine m_iast X P 26 rfl (by decide) hw.1 dX7_sheet_50 (fun Ar_9 H locs eAr_9 P => ?_)
  replace hw := hw.2
  replace hw := hw Ar_9 eAr_9
  refine lv_aload_n hx hb dX7_sheet_51 rfl (lv_at hl 0 rfl) ?_
  refine mg_sheetSize X P dX7_sheet_52 ?_
  refine lv_iload_n hx hb dX7_sheet_55 rfl (lv_at hl 1 rfl) ?_
  refine lv_iload_n hx hb dX7_sheet_56 rfl (lv_at hl 2 rfl) ?_
  refine lv_iconst (v := (-1)) hx hb dX7_sheet_57 (by decide) ?_
  refine lv_icmp_ne (tgt := 65) hx hb dX7_sheet_58 (by decide) (fun c_10 => ?_) (fun c_10 => ?_)
  · replace hw := hw.1 c_10
    refine lv_iload_n hx hb dX7_sheet_65 rfl (lv_at hl 3 rfl) ?_
    exact kwm_sheet_J66 X hr _ _ _ P (lv_sub hl [0, 1] rfl) hw
  · replace hw := hw.2 c_10
    refine lv_iconst (v := 0) hx hb dX7_sheet_61 (by decide) ?_
    refine lv_goto (tgt := 66) hx hb dX7_sheet_62 (by decide) ?_
    exact kwm_sheet_J66 X hr _ _ _ P (lv_sub hl [0, 1] rfl) hw
def wm_sheet_J32 (F : tF) (Ar : tA) (y1_6 : Int32) (y2_6 : Int32) (y3_6 : Int32) (Q : Int32 → tF → tA → Prop) : Prop :=
  ((y2_6 = (-1) → (wm_sheet_J44 F Ar y1_6 y2_6 y3_6 Q)) ∧ (¬ y2_6 = (-1) → (((0 : Int32) ≤ y3_6 → (wm_sheet_J44 F Ar y1_6 y2_6 y3_6 Q)) ∧ (¬ (0 : Int32) ≤ y3_6 → Q (-14) F Ar))))
set_option maxHeartbeats 4000000 in
theorem kwm_sheet_J32 {Q : Int32 → tF → tA → Prop} (X : mCx p s m args meth c cX7_sheet 5 D cl ci dA dL) (hr : meth.sig.returnType = (some .int)) {F : tF} {Ar : tA} (y1_6 : Int32) (y2_6 : Int32) (y3_6 : Int32) {H : Heap} {locs : List Loc} {ls : Array Slot} (P : mP D cl (mReg ad) ci dA dL ad s.heap F Ar H locs) (hl : lv_has ls 5 [(0, .ref (ad 0)), (1, .int y1_6), (2, .int y2_6), (3, .int y3_6)]) (hw : wm_sheet_J32 F Ar y1_6 y2_6 y3_6 Q) : W p l e ({ frames := 1, cells := 0, slots := 0, locals := 22 }) s m args below meth c H locs 0 0 (MQ below (mQi D cl ci dA dL ad Q) args s 0 0 (mReg ad)) (F0 m 32 ls []) := by
  obtain ⟨hx, hb, hml, hown, hts, -, -, hlk⟩ := id X
  have S : CallFix p m c _ _ s args lw_all RX7 := ⟨hx, hb, hml, hown, hts⟩
  refine lv_iload_n hx hb dX7_sheet_32 rfl (lv_at hl 2 rfl) ?_
  refine lv_iconst (v := (-1)) hx hb dX7_sheet_33 (by decide) ?_
  refine lv_icmp_eq (tgt := 44) hx hb dX7_sheet_34 (by decide) (fun c_7 => ?_) (fun c_7 => ?_)
  · replace hw := hw.1 c_7
    exact kwm_sheet_J44 X hr _ _ _ P (lv_sub hl [0, 1, 2, 3] rfl) hw
  · replace hw := hw.2 c_7
    refine lv_iload_n hx hb dX7_sheet_37 rfl (lv_at hl 3 rfl) ?_
    refine lv_if_ge (tgt := 44) hx hb dX7_sheet_38 (by decide) (fun c_17 => ?_) (fun c_17 => ?_)
    · replace hw := hw.1 c_17
      exact kwm_sheet_J44 X hr _ _ _ P (lv_sub hl [0, 1, 2, 3] rfl) hw
    · replace hw := hw.2 c_17
      refine lv_bipush (v := (-14)) hx hb dX7_sheet_41 (by decide) ?_
      exact m_iret X P hr hw dX7_sheet_43
def wm_sheet (F : tF) (Ar : tA) (a1 : Int32) (a2 : Int32) (a3 : Int32) (Q : Int32 → tF → tA → Prop) : Prop :=
  wm_in a1 0 3 (fun r_1 => ((r_1 = 0 → Q (-2) F Ar) ∧ (¬ r_1 = 0 → wm_in a2 (-1) 2 (fun r_3 => ((r_3 = 0 → Q (-2) F Ar) ∧ (¬ r_3 = 0 → ((a2 = (-1) → (wm_sheet_J32 F Ar a1 a2 a3 Q)) ∧ (¬ a2 = (-1) → ((a3 ≤ 40 → (wm_sheet_J32 F Ar a1 a2 a3 Q)) ∧ (¬ a3 ≤ 40 → Q (-2) F Ar))))))))))
set_option maxHeartbeats 4000000 in
theorem twm_sheet (l : Launch) (D : va_G) (cl : List vw_C) (ci : Nat) (dA dL : ClassId) (ad : Nat → Nat) (F : tF) (Ar : tA) (a1 : Int32) (a2 : Int32) (a3 : Int32) (Q : Int32 → tF → tA → Prop) (hw : wm_sheet F Ar a1 a2 a3 Q) : Met l yX7_sheet (ws_ yX7_sheet cX7_sheet 5 (some .int)) ({ frames := 1, cells := 0, slots := 0, locals := 22 }) (mPc D cl ci dA dL ad F Ar [.int a1, .int a2, .int a3]) (mQi D cl ci dA dL ad Q) 0 0 (mReg ad) := by
  refine m_entry (by decide) rfl (Nat.le_of_ble_eq_true rfl) ?_
  intro p e s m below meth c ls X hr P hl
  obtain ⟨hx, hb, hml, hown, hts, -, -, hlk⟩ := id X
  have S : CallFix p m c _ _ s _ lw_all RX7 := ⟨hx, hb, hml, hown, hts⟩
  have hl : lv_has ls 5 [(0, .ref (ad 0)), (1, .int a1), (2, .int a2), (3, .int a3)] := hl
  refine lv_iload_n hx hb dX7_sheet_0 rfl (lv_at hl 1 rfl) ?_
  refine lv_iconst (v := 0) hx hb dX7_sheet_1 (by decide) ?_
  refine lv_iconst (v := 3) hx hb dX7_sheet_2 (by decide) ?_
  refine cwm_in S hw ⟨Nat.le_of_ble_eq_true rfl, Nat.le_of_ble_eq_true rfl⟩ hl.1 (Nat.le_of_ble_eq_true rfl) dX7_sheet_3 (fun r_1 hw => ?_)
  refine lv_if_eq (tgt := 29) hx hb dX7_sheet_6 (by decide) (fun c_2 => ?_) (fun c_2 => ?_)
  · replace hw := hw.1 c_2
    refine lv_bipush (v := (-2)) hx hb dX7_sheet_29 (by decide) ?_
    exact m_iret X P hr hw dX7_sheet_31
  · replace hw := hw.2 c_2
    refine lv_iload_n hx hb dX7_sheet_9 rfl (lv_at hl 2 rfl) ?_
    refine lv_iconst (v := (-1)) hx hb dX7_sheet_10 (by decide) ?_
    refine lv_iconst (v := 2) hx hb dX7_sheet_11 (by decide) ?_
    refine cwm_in S hw ⟨Nat.le_of_ble_eq_true rfl, Nat.le_of_ble_eq_true rfl⟩ hl.1 (Nat.le_of_ble_eq_true rfl) dX7_sheet_12 (fun r_3 hw => ?_)
    refine lv_if_eq (tgt := 29) hx hb dX7_sheet_15 (by decide) (fun c_4 => ?_) (fun c_4 => ?_)
    · replace hw := hw.1 c_4
      refine lv_bipush (v := (-2)) hx hb dX7_sheet_29 (by decide) ?_
      exact m_iret X P hr hw dX7_sheet_31
    · replace hw := hw.2 c_4
      refine lv_iload_n hx hb dX7_sheet_18 rfl (lv_at hl 2 rfl) ?_
      refine lv_iconst (v := (-1)) hx hb dX7_sheet_19 (by decide) ?_
      refine lv_icmp_eq (tgt := 32) hx hb dX7_sheet_20 (by decide) (fun c_5 => ?_) (fun c_5 => ?_)
      · replace hw := hw.1 c_5
        exact kwm_sheet_J32 X hr _ _ _ P (lv_sub hl [0, 1, 2, 3] rfl) hw
      · replace hw := hw.2 c_5
        refine lv_iload_n hx hb dX7_sheet_23 rfl (lv_at hl 3 rfl) ?_
        refine lv_bipush (v := 40) hx hb dX7_sheet_24 (by decide) ?_
        refine lv_icmp_le (tgt := 32) hx hb dX7_sheet_26 (by decide) (fun c_18 => ?_) (fun c_18 => ?_)
        · replace hw := hw.1 c_18
          exact kwm_sheet_J32 X hr _ _ _ P (lv_sub hl [0, 1, 2, 3] rfl) hw
        · replace hw := hw.2 c_18
          refine lv_bipush (v := (-2)) hx hb dX7_sheet_29 (by decide) ?_
          exact m_iret X P hr hw dX7_sheet_31
-- cell
def wm_cell_J84 (F : tF) (Ar : tA) (z0_8 : Int32) (z1_8 : Int32) (Q : Int32 → tF → tA → Prop) : Prop :=
  vp_in z1_8 160 ∧ ∀ Ar_9 : tA, Ar_9 = aset Ar 28 z1_8.toNatClampNeg z0_8 → Q 1 F Ar_9
set_option maxHeartbeats 4000000 in
theorem kwm_cell_J84 {Q : Int32 → tF → tA → Prop} (X : mCx p s m args meth c cX7_cell 4 D cl ci dA dL) (hr : meth.sig.returnType = (some .int)) {F : tF} {Ar : tA} (z0_8 : Int32) (z1_8 : Int32) {H : Heap} {locs : List Loc} {ls : Array Slot} (P : mP D cl (mReg ad) ci dA dL ad s.heap F Ar H locs) (hl : lv_has ls 4 [(0, .ref (ad 0))]) (hw : wm_cell_J84 F Ar z0_8 z1_8 Q) : W p l e ({ frames := 1, cells := 0, slots := 0, locals := 22 }) s m args below meth c H locs 0 0 (MQ below (mQi D cl ci dA dL ad Q) args s 0 0 (mReg ad)) (F0 m 84 ls [.int z0_8, .int z1_8, .ref (ad 29)]) := by
  obtain ⟨hx, hb, hml, hown, hts, -, -, hlk⟩ := id X
  have S : CallFix p m c _ _ s args lw_all RX7 := ⟨hx, hb, hml, hown, hts⟩
  refine m_iast X P 28 rfl (by decide) hw.1 dX7_cell_84 (fun Ar_9 H locs eAr_9 P => ?_)
  replace hw := hw.2
  replace hw := hw Ar_9 eAr_9
  refine lv_iconst (v := 1) hx hb dX7_cell_85 (by decide) ?_
  exact m_iret X P hr hw dX7_cell_86
def wm_cell (F : tF) (Ar : tA) (a1 : Int32) (a2 : Int32) (a3 : Int32) (Q : Int32 → tF → tA → Prop) : Prop :=
  wm_in a1 0 3 (fun r_1 => ((¬ r_1 = 0 → vp_in a1 4 ∧ ((¬ (Ar 26 a1.toNatClampNeg) = (-1) → vp_in a1 4 ∧ wm_in a2 0 ((Ar 27 a1.toNatClampNeg) - 1) (fun r_4 => ((¬ r_4 = 0 → vp_in a1 4 ∧ ((¬ (Ar 26 a1.toNatClampNeg) = 0 → vp_in a1 4 ∧ ((¬ (Ar 26 a1.toNatClampNeg) = 1 → (wm_cell_J84 F Ar a3 ((40 * a1) + a2) Q)) ∧ ((Ar 26 a1.toNatClampNeg) = 1 → (wm_cell_J84 F Ar (a3.toInt16.toInt32) ((40 * a1) + a2) Q)))) ∧ ((Ar 26 a1.toNatClampNeg) = 0 → (wm_cell_J84 F Ar (a3.toInt8.toInt32) ((40 * a1) + a2) Q)))) ∧ (r_4 = 0 → Q (-12) F Ar)))) ∧ ((Ar 26 a1.toNatClampNeg) = (-1) → Q (-11) F Ar))) ∧ (r_1 = 0 → Q (-2) F Ar)))
set_option maxHeartbeats 4000000 in
theorem twm_cell (l : Launch) (D : va_G) (cl : List vw_C) (ci : Nat) (dA dL : ClassId) (ad : Nat → Nat) (F : tF) (Ar : tA) (a1 : Int32) (a2 : Int32) (a3 : Int32) (Q : Int32 → tF → tA → Prop) (hw : wm_cell F Ar a1 a2 a3 Q) : Met l yX7_cell (ws_ yX7_cell cX7_cell 4 (some .int)) ({ frames := 1, cells := 0, slots := 0, locals := 22 }) (mPc D cl ci dA dL ad F Ar [.int a1, .int a2, .int a3]) (mQi D cl ci dA dL ad Q) 0 0 (mReg ad) := by
  refine m_entry (by decide) rfl (Nat.le_of_ble_eq_true rfl) ?_
  intro p e s m below meth c ls X hr P hl
  obtain ⟨hx, hb, hml, hown, hts, -, -, hlk⟩ := id X
  have S : CallFix p m c _ _ s _ lw_all RX7 := ⟨hx, hb, hml, hown, hts⟩
  have hl : lv_has ls 4 [(0, .ref (ad 0)), (1, .int a1), (2, .int a2), (3, .int a3)] := hl
  refine lv_iload_n hx hb dX7_cell_0 rfl (lv_at hl 1 rfl) ?_
  refine lv_iconst (v := 0) hx hb dX7_cell_1 (by decide) ?_
  refine lv_iconst (v := 3) hx hb dX7_cell_2 (by decide) ?_
  refine cwm_in S hw ⟨Nat.le_of_ble_eq_true rfl, Nat.le_of_ble_eq_true rfl⟩ hl.1 (Nat.le_of_ble_eq_true rfl) dX7_cell_3 (fun r_1 hw => ?_)
  refine lv_if_ne (tgt := 12) hx hb dX7_cell_6 (by decide) (fun c_2 => ?_) (fun c_2 => ?_)
  · replace hw := hw.1 c_2
    refine lv_aload_n hx hb dX7_cell_12 rfl (lv_at hl 0 rfl) ?_
    refine mg_sheetSort X P dX7_cell_13 ?_
    refine lv_iload_n hx hb dX7_cell_16 rfl (lv_at hl 1 rfl) ?_
    refine m_iald X P 26 rfl (by decide) hw.1 dX7_cell_17 ?_
    replace hw := hw.2
    refine lv_iconst (v := (-1)) hx hb dX7_cell_18 (by decide) ?_
    refine lv_icmp_ne (tgt := 25) hx hb dX7_cell_19 (by decide) (fun c_3 => ?_) (fun c_3 => ?_)
    · replace hw := hw.1 c_3
      refine lv_iload_n hx hb dX7_cell_25 rfl (lv_at hl 2 rfl) ?_
      refine lv_iconst (v := 0) hx hb dX7_cell_26 (by decide) ?_
      refine lv_aload_n hx hb dX7_cell_27 rfl (lv_at hl 0 rfl) ?_
      refine mg_sheetSize X P dX7_cell_28 ?_
      refine lv_iload_n hx hb dX7_cell_31 rfl (lv_at hl 1 rfl) ?_
      refine m_iald X P 27 rfl (by decide) hw.1 dX7_cell_32 ?_
      replace hw := hw.2
      refine lv_iconst (v := 1) hx hb dX7_cell_33 (by decide) ?_
      refine lv_isub hx hb dX7_cell_34 ?_
      refine cwm_in S hw ⟨Nat.le_of_ble_eq_true rfl, Nat.le_of_ble_eq_true rfl⟩ hl.1 (Nat.le_of_ble_eq_true rfl) dX7_cell_35 (fun r_4 hw => ?_)
      refine lv_if_ne (tgt := 44) hx hb dX7_cell_38 (by decide) (fun c_5 => ?_) (fun c_5 => ?_)
      · replace hw := hw.1 c_5
        refine lv_aload_n hx hb dX7_cell_44 rfl (lv_at hl 0 rfl) ?_
        refine mg_cells X P dX7_cell_45 ?_
        refine lv_bipush (v := 40) hx hb dX7_cell_48 (by decide) ?_
        refine lv_iload_n hx hb dX7_cell_50 rfl (lv_at hl 1 rfl) ?_
        refine lv_imul hx hb dX7_cell_51 ?_
        refine lv_iload_n hx hb dX7_cell_52 rfl (lv_at hl 2 rfl) ?_
        refine lv_iadd hx hb dX7_cell_53 ?_
        refine lv_aload_n hx hb dX7_cell_54 rfl (lv_at hl 0 rfl) ?_
        refine mg_sheetSort X P dX7_cell_55 ?_
        refine lv_iload_n hx hb dX7_cell_58 rfl (lv_at hl 1 rfl) ?_
        refine m_iald X P 26 rfl (by decide) hw.1 dX7_cell_59 ?_
        replace hw := hw.2
        refine lv_if_ne (tgt := 68) hx hb dX7_cell_60 (by decide) (fun c_6 => ?_) (fun c_6 => ?_)
        · replace hw := hw.1 c_6
          refine lv_aload_n hx hb dX7_cell_68 rfl (lv_at hl 0 rfl) ?_
          refine mg_sheetSort X P dX7_cell_69 ?_
          refine lv_iload_n hx hb dX7_cell_72 rfl (lv_at hl 1 rfl) ?_
          refine m_iald X P 26 rfl (by decide) hw.1 dX7_cell_73 ?_
          replace hw := hw.2
          refine lv_iconst (v := 1) hx hb dX7_cell_74 (by decide) ?_
          refine lv_icmp_ne (tgt := 83) hx hb dX7_cell_75 (by decide) (fun c_7 => ?_) (fun c_7 => ?_)
          · replace hw := hw.1 c_7
            refine lv_iload_n hx hb dX7_cell_83 rfl (lv_at hl 3 rfl) ?_
            exact kwm_cell_J84 X hr _ _ P (lv_sub hl [0] rfl) hw
          · replace hw := hw.2 c_7
            refine lv_iload_n hx hb dX7_cell_78 rfl (lv_at hl 3 rfl) ?_
            refine lv_i2s hx hb dX7_cell_79 rfl ?_
            refine lv_goto (tgt := 84) hx hb dX7_cell_80 (by decide) ?_
            exact kwm_cell_J84 X hr _ _ P (lv_sub hl [0] rfl) hw
        · replace hw := hw.2 c_6
          refine lv_iload_n hx hb dX7_cell_63 rfl (lv_at hl 3 rfl) ?_
          refine lv_i2b hx hb dX7_cell_64 rfl ?_
          refine lv_goto (tgt := 84) hx hb dX7_cell_65 (by decide) ?_
          exact kwm_cell_J84 X hr _ _ P (lv_sub hl [0] rfl) hw
      · replace hw := hw.2 c_5
        refine lv_bipush (v := (-12)) hx hb dX7_cell_41 (by decide) ?_
        exact m_iret X P hr hw dX7_cell_43
    · replace hw := hw.2 c_3
      refine lv_bipush (v := (-11)) hx hb dX7_cell_22 (by decide) ?_
      exact m_iret X P hr hw dX7_cell_24
  · replace hw := hw.2 c_2
    refine lv_bipush (v := (-2)) hx hb dX7_cell_9 (by decide) ?_
    exact m_iret X P hr hw dX7_cell_11
-- copy
def wm_copy_J173 (F : tF) (Ar : tA) (y5_20 : Int32) (y6_20 : Int32) (y7_20 : Int32) (y8_20 : Int32) (z0_20 : Int32) (Kh147_17 : tA → Int32 → Prop) (Q : Int32 → tF → tA → Prop) : Prop :=
  vp_in (y6_20 + z0_20) 160 ∧ vp_in (y7_20 + z0_20) 160 ∧ ∀ Ar_21 : tA, Ar_21 = aset Ar 28 (y7_20 + z0_20).toNatClampNeg (Ar 28 (y6_20 + z0_20).toNatClampNeg) → (Kh147_17 Ar_21 (y8_20 + 1))
set_option maxHeartbeats 4000000 in
theorem kwm_copy_J173 {Q : Int32 → tF → tA → Prop} (X : mCx p s m args meth c cX7_copy 10 D cl ci dA dL) (hr : meth.sig.returnType = (some .int)) {F : tF} {Ar : tA} (y5_20 : Int32) (y6_20 : Int32) (y7_20 : Int32) (y8_20 : Int32) (z0_20 : Int32) (Kh147_17 : tA → Int32 → Prop) {H : Heap} {locs : List Loc} {ls : Array Slot} (P : mP D cl (mReg ad) ci dA dL ad s.heap F Ar H locs) (hl : lv_has ls 10 [(0, .ref (ad 0)), (5, .int y5_20), (6, .int y6_20), (7, .int y7_20), (8, .int y8_20)]) (hw : wm_copy_J173 F Ar y5_20 y6_20 y7_20 y8_20 z0_20 Kh147_17 Q) (hKh147_17 : ∀ (Ar_ : tA) (w8_ : Int32) (H : Heap) (locs : List Loc) (ls : Array Slot), mP D cl (mReg ad) ci dA dL ad s.heap F Ar_ H locs → lv_has ls 10 [(0, .ref (ad 0)), (5, .int y5_20), (6, .int y6_20), (7, .int y7_20), (8, .int w8_)] → Kh147_17 Ar_ w8_ → W p l e ({ frames := 1, cells := 0, slots := 0, locals := 22 }) s m args below meth c H locs 0 0 (MQ below (mQi D cl ci dA dL ad Q) args s 0 0 (mReg ad)) (F0 m 147 ls [])) : W p l e ({ frames := 1, cells := 0, slots := 0, locals := 22 }) s m args below meth c H locs 0 0 (MQ below (mQi D cl ci dA dL ad Q) args s 0 0 (mReg ad)) (F0 m 173 ls [.int z0_20]) := by
  obtain ⟨hx, hb, hml, hown, hts, -, -, hlk⟩ := id X
  have S : CallFix p m c _ _ s args lw_all RX7 := ⟨hx, hb, hml, hown, hts⟩
  refine lv_istore (lv' := [(9, .int z0_20), (0, .ref (ad 0)), (5, .int y5_20), (6, .int y6_20), (7, .int y7_20), (8, .int y8_20)]) hx hb dX7_copy_173 hl (by decide) rfl (fun ls hl => ?_)
  refine lv_aload_n hx hb dX7_copy_175 rfl (lv_at hl 1 rfl) ?_
  refine mg_cells X P dX7_copy_176 ?_
  refine lv_iload hx hb dX7_copy_179 (lv_at hl 4 rfl) ?_
  refine lv_iload hx hb dX7_copy_181 (lv_at hl 0 rfl) ?_
  refine lv_iadd hx hb dX7_copy_183 ?_
  refine lv_aload_n hx hb dX7_copy_184 rfl (lv_at hl 1 rfl) ?_
  refine mg_cells X P dX7_copy_185 ?_
  refine lv_iload hx hb dX7_copy_188 (lv_at hl 3 rfl) ?_
  refine lv_iload hx hb dX7_copy_190 (lv_at hl 0 rfl) ?_
  refine lv_iadd hx hb dX7_copy_192 ?_
  refine m_iald X P 28 rfl (by decide) hw.1 dX7_copy_193 ?_
  replace hw := hw.2
  refine m_iast X P 28 rfl (by decide) hw.1 dX7_copy_194 (fun Ar_21 H locs eAr_21 P => ?_)
  replace hw := hw.2
  replace hw := hw Ar_21 eAr_21
  refine lv_iinc (v := (y8_20 + 1)) (lv' := [(8, .int (y8_20 + 1)), (9, .int z0_20), (0, .ref (ad 0)), (5, .int y5_20), (6, .int y6_20), (7, .int y7_20)]) hx hb dX7_copy_195 hl (k := 5) rfl rfl (by decide) rfl (fun ls hl => ?_)
  refine lv_goto (tgt := 147) hx hb dX7_copy_198 (by decide) ?_
  exact hKh147_17 _ _ _ _ _ P (lv_sub hl [2, 3, 4, 5, 0] rfl) hw
def wm_copy_L147 (F : tF) (y5_17 : Int32) (y6_17 : Int32) (y7_17 : Int32) (Q : Int32 → tF → tA → Prop) : Nat → tA → Int32 → Prop
  | 0, _, _ => False
  | f147 + 1, Ar, y8_17 =>
    ((y5_17 ≤ y8_17 → Q y5_17 F Ar) ∧ (¬ y5_17 ≤ y8_17 → ((y7_17 ≤ y6_17 → (wm_copy_J173 F Ar y5_17 y6_17 y7_17 y8_17 y8_17 (wm_copy_L147 F y5_17 y6_17 y7_17 Q f147) Q)) ∧ (¬ y7_17 ≤ y6_17 → (wm_copy_J173 F Ar y5_17 y6_17 y7_17 y8_17 ((y5_17 - 1) - y8_17) (wm_copy_L147 F y5_17 y6_17 y7_17 Q f147) Q)))))
set_option maxHeartbeats 4000000 in
theorem kwm_copy_L147 {Q : Int32 → tF → tA → Prop} (X : mCx p s m args meth c cX7_copy 10 D cl ci dA dL) (hr : meth.sig.returnType = (some .int)) (F : tF) (y5_17 : Int32) (y6_17 : Int32) (y7_17 : Int32) : ∀ (n : Nat) (Ar : tA) (y8_17 : Int32) (H : Heap) (locs : List Loc) (ls : Array Slot), mP D cl (mReg ad) ci dA dL ad s.heap F Ar H locs → lv_has ls 10 [(0, .ref (ad 0)), (5, .int y5_17), (6, .int y6_17), (7, .int y7_17), (8, .int y8_17)] → wm_copy_L147 F y5_17 y6_17 y7_17 Q n Ar y8_17 → W p l e ({ frames := 1, cells := 0, slots := 0, locals := 22 }) s m args below meth c H locs 0 0 (MQ below (mQi D cl ci dA dL ad Q) args s 0 0 (mReg ad)) (F0 m 147 ls []) := by
  obtain ⟨hx, hb, hml, hown, hts, -, -, hlk⟩ := id X
  have S : CallFix p m c _ _ s args lw_all RX7 := ⟨hx, hb, hml, hown, hts⟩
  intro n
  induction n with
  | zero =>
    intro Ar y8_17 H locs ls P hl hw
    exact hw.elim
  | succ n ih =>
    intro Ar y8_17 H locs ls P hl hw
    have hKh147_17 := ih
    refine lv_iload hx hb dX7_copy_147 (lv_at hl 4 rfl) ?_
    refine lv_iload hx hb dX7_copy_149 (lv_at hl 1 rfl) ?_
    refine lv_icmp_ge (tgt := 201) hx hb dX7_copy_151 (by decide) (fun c_18 => ?_) (fun c_18 => ?_)
    · replace hw := hw.1 c_18
      refine lv_iload hx hb dX7_copy_201 (lv_at hl 1 rfl) ?_
      exact m_iret X P hr hw dX7_copy_203
    · replace hw := hw.2 c_18
      refine lv_iload hx hb dX7_copy_154 (lv_at hl 2 rfl) ?_
      refine lv_iload hx hb dX7_copy_156 (lv_at hl 3 rfl) ?_
      refine lv_icmp_ge (tgt := 171) hx hb dX7_copy_158 (by decide) (fun c_19 => ?_) (fun c_19 => ?_)
      · replace hw := hw.1 c_19
        refine lv_iload hx hb dX7_copy_171 (lv_at hl 4 rfl) ?_
        exact kwm_copy_J173 X hr _ _ _ _ _ _ P (lv_sub hl [0, 1, 2, 3, 4] rfl) hw hKh147_17
      · replace hw := hw.2 c_19
        refine lv_iload hx hb dX7_copy_161 (lv_at hl 1 rfl) ?_
        refine lv_iconst (v := 1) hx hb dX7_copy_163 (by decide) ?_
        refine lv_isub hx hb dX7_copy_164 ?_
        refine lv_iload hx hb dX7_copy_165 (lv_at hl 4 rfl) ?_
        refine lv_isub hx hb dX7_copy_167 ?_
        refine lv_goto (tgt := 173) hx hb dX7_copy_168 (by decide) ?_
        exact kwm_copy_J173 X hr _ _ _ _ _ _ P (lv_sub hl [0, 1, 2, 3, 4] rfl) hw hKh147_17
def wm_copy (F : tF) (Ar : tA) (a1 : Int32) (a2 : Int32) (a3 : Int32) (a4 : Int32) (a5 : Int32) (Q : Int32 → tF → tA → Prop) : Prop :=
  wm_in a1 0 3 (fun r_1 => ((r_1 = 0 → Q (-2) F Ar) ∧ (¬ r_1 = 0 → wm_in a3 0 3 (fun r_3 => ((¬ r_3 = 0 → vp_in a1 4 ∧ (((Ar 26 a1.toNatClampNeg) = (-1) → Q (-11) F Ar) ∧ (¬ (Ar 26 a1.toNatClampNeg) = (-1) → vp_in a3 4 ∧ ((¬ (Ar 26 a3.toNatClampNeg) = (-1) → vp_in a1 4 ∧ vp_in a3 4 ∧ (((Ar 26 a1.toNatClampNeg) = (Ar 26 a3.toNatClampNeg) → ((a5 < 0 → Q (-12) F Ar) ∧ (¬ a5 < 0 → ((a2 < 0 → Q (-12) F Ar) ∧ (¬ a2 < 0 → ((a4 < 0 → Q (-12) F Ar) ∧ (¬ a4 < 0 → vp_in a1 4 ∧ (((Ar 27 a1.toNatClampNeg) < a2 → Q (-12) F Ar) ∧ (¬ (Ar 27 a1.toNatClampNeg) < a2 → vp_in a3 4 ∧ (((Ar 27 a3.toNatClampNeg) < a4 → Q (-12) F Ar) ∧ (¬ (Ar 27 a3.toNatClampNeg) < a4 → vp_in a1 4 ∧ ((((Ar 27 a1.toNatClampNeg) - a2) < a5 → Q (-12) F Ar) ∧ (¬ ((Ar 27 a1.toNatClampNeg) - a2) < a5 → vp_in a3 4 ∧ ((a5 ≤ ((Ar 27 a3.toNatClampNeg) - a4) → ∀ x6_15 : Int32, x6_15 = ((40 * a1) + a2) → ∀ x7_16 : Int32, x7_16 = ((40 * a3) + a4) → (∃ n147, wm_copy_L147 F a5 x6_15 x7_16 Q n147 Ar 0)) ∧ (¬ a5 ≤ ((Ar 27 a3.toNatClampNeg) - a4) → Q (-12) F Ar))))))))))))))) ∧ (¬ (Ar 26 a1.toNatClampNeg) = (Ar 26 a3.toNatClampNeg) → Q (-13) F Ar))) ∧ ((Ar 26 a3.toNatClampNeg) = (-1) → Q (-11) F Ar))))) ∧ (r_3 = 0 → Q (-2) F Ar))))))
set_option maxHeartbeats 4000000 in
theorem twm_copy (l : Launch) (D : va_G) (cl : List vw_C) (ci : Nat) (dA dL : ClassId) (ad : Nat → Nat) (F : tF) (Ar : tA) (a1 : Int32) (a2 : Int32) (a3 : Int32) (a4 : Int32) (a5 : Int32) (Q : Int32 → tF → tA → Prop) (hw : wm_copy F Ar a1 a2 a3 a4 a5 Q) : Met l yX7_copy (ws_ yX7_copy cX7_copy 10 (some .int)) ({ frames := 1, cells := 0, slots := 0, locals := 22 }) (mPc D cl ci dA dL ad F Ar [.int a1, .int a2, .int a3, .int a4, .int a5]) (mQi D cl ci dA dL ad Q) 0 0 (mReg ad) := by
  refine m_entry (by decide) rfl (Nat.le_of_ble_eq_true rfl) ?_
  intro p e s m below meth c ls X hr P hl
  obtain ⟨hx, hb, hml, hown, hts, -, -, hlk⟩ := id X
  have S : CallFix p m c _ _ s _ lw_all RX7 := ⟨hx, hb, hml, hown, hts⟩
  have hl : lv_has ls 10 [(0, .ref (ad 0)), (1, .int a1), (2, .int a2), (3, .int a3), (4, .int a4), (5, .int a5)] := hl
  refine lv_iload_n hx hb dX7_copy_0 rfl (lv_at hl 1 rfl) ?_
  refine lv_iconst (v := 0) hx hb dX7_copy_1 (by decide) ?_
  refine lv_iconst (v := 3) hx hb dX7_copy_2 (by decide) ?_
  refine cwm_in S hw ⟨Nat.le_of_ble_eq_true rfl, Nat.le_of_ble_eq_true rfl⟩ hl.1 (Nat.le_of_ble_eq_true rfl) dX7_copy_3 (fun r_1 hw => ?_)
  refine lv_if_eq (tgt := 18) hx hb dX7_copy_6 (by decide) (fun c_2 => ?_) (fun c_2 => ?_)
  · replace hw := hw.1 c_2
    refine lv_bipush (v := (-2)) hx hb dX7_copy_18 (by decide) ?_
    exact m_iret X P hr hw dX7_copy_20
  · replace hw := hw.2 c_2
    refine lv_iload_n hx hb dX7_copy_9 rfl (lv_at hl 3 rfl) ?_
    refine lv_iconst (v := 0) hx hb dX7_copy_10 (by decide) ?_
    refine lv_iconst (v := 3) hx hb dX7_copy_11 (by decide) ?_
    refine cwm_in S hw ⟨Nat.le_of_ble_eq_true rfl, Nat.le_of_ble_eq_true rfl⟩ hl.1 (Nat.le_of_ble_eq_true rfl) dX7_copy_12 (fun r_3 hw => ?_)
    refine lv_if_ne (tgt := 21) hx hb dX7_copy_15 (by decide) (fun c_4 => ?_) (fun c_4 => ?_)
    · replace hw := hw.1 c_4
      refine lv_aload_n hx hb dX7_copy_21 rfl (lv_at hl 0 rfl) ?_
      refine mg_sheetSort X P dX7_copy_22 ?_
      refine lv_iload_n hx hb dX7_copy_25 rfl (lv_at hl 1 rfl) ?_
      refine m_iald X P 26 rfl (by decide) hw.1 dX7_copy_26 ?_
      replace hw := hw.2
      refine lv_iconst (v := (-1)) hx hb dX7_copy_27 (by decide) ?_
      refine lv_icmp_eq (tgt := 41) hx hb dX7_copy_28 (by decide) (fun c_5 => ?_) (fun c_5 => ?_)
      · replace hw := hw.1 c_5
        refine lv_bipush (v := (-11)) hx hb dX7_copy_41 (by decide) ?_
        exact m_iret X P hr hw dX7_copy_43
      · replace hw := hw.2 c_5
        refine lv_aload_n hx hb dX7_copy_31 rfl (lv_at hl 0 rfl) ?_
        refine mg_sheetSort X P dX7_copy_32 ?_
        refine lv_iload_n hx hb dX7_copy_35 rfl (lv_at hl 3 rfl) ?_
        refine m_iald X P 26 rfl (by decide) hw.1 dX7_copy_36 ?_
        replace hw := hw.2
        refine lv_iconst (v := (-1)) hx hb dX7_copy_37 (by decide) ?_
        refine lv_icmp_ne (tgt := 44) hx hb dX7_copy_38 (by decide) (fun c_6 => ?_) (fun c_6 => ?_)
        · replace hw := hw.1 c_6
          refine lv_aload_n hx hb dX7_copy_44 rfl (lv_at hl 0 rfl) ?_
          refine mg_sheetSort X P dX7_copy_45 ?_
          refine lv_iload_n hx hb dX7_copy_48 rfl (lv_at hl 1 rfl) ?_
          refine m_iald X P 26 rfl (by decide) hw.1 dX7_copy_49 ?_
          replace hw := hw.2
          refine lv_aload_n hx hb dX7_copy_50 rfl (lv_at hl 0 rfl) ?_
          refine mg_sheetSort X P dX7_copy_51 ?_
          refine lv_iload_n hx hb dX7_copy_54 rfl (lv_at hl 3 rfl) ?_
          refine m_iald X P 26 rfl (by decide) hw.1 dX7_copy_55 ?_
          replace hw := hw.2
          refine lv_icmp_eq (tgt := 62) hx hb dX7_copy_56 (by decide) (fun c_7 => ?_) (fun c_7 => ?_)
          · replace hw := hw.1 c_7
            refine lv_iload hx hb dX7_copy_62 (lv_at hl 5 rfl) ?_
            refine lv_if_lt (tgt := 124) hx hb dX7_copy_64 (by decide) (fun c_8 => ?_) (fun c_8 => ?_)
            · replace hw := hw.1 c_8
              refine lv_bipush (v := (-12)) hx hb dX7_copy_124 (by decide) ?_
              exact m_iret X P hr hw dX7_copy_126
            · replace hw := hw.2 c_8
              refine lv_iload_n hx hb dX7_copy_67 rfl (lv_at hl 2 rfl) ?_
              refine lv_if_lt (tgt := 124) hx hb dX7_copy_68 (by decide) (fun c_9 => ?_) (fun c_9 => ?_)
              · replace hw := hw.1 c_9
                refine lv_bipush (v := (-12)) hx hb dX7_copy_124 (by decide) ?_
                exact m_iret X P hr hw dX7_copy_126
              · replace hw := hw.2 c_9
                refine lv_iload hx hb dX7_copy_71 (lv_at hl 4 rfl) ?_
                refine lv_if_lt (tgt := 124) hx hb dX7_copy_73 (by decide) (fun c_10 => ?_) (fun c_10 => ?_)
                · replace hw := hw.1 c_10
                  refine lv_bipush (v := (-12)) hx hb dX7_copy_124 (by decide) ?_
                  exact m_iret X P hr hw dX7_copy_126
                · replace hw := hw.2 c_10
                  refine lv_iload_n hx hb dX7_copy_76 rfl (lv_at hl 2 rfl) ?_
                  refine lv_aload_n hx hb dX7_copy_77 rfl (lv_at hl 0 rfl) ?_
                  refine mg_sheetSize X P dX7_copy_78 ?_
                  refine lv_iload_n hx hb dX7_copy_81 rfl (lv_at hl 1 rfl) ?_
                  refine m_iald X P 27 rfl (by decide) hw.1 dX7_copy_82 ?_
                  replace hw := hw.2
                  refine lv_icmp_gt (tgt := 124) hx hb dX7_copy_83 (by decide) (fun c_11 => ?_) (fun c_11 => ?_)
                  · replace hw := hw.1 c_11
                    refine lv_bipush (v := (-12)) hx hb dX7_copy_124 (by decide) ?_
                    exact m_iret X P hr hw dX7_copy_126
                  · replace hw := hw.2 c_11
                    refine lv_iload hx hb dX7_copy_86 (lv_at hl 4 rfl) ?_
                    refine lv_aload_n hx hb dX7_copy_88 rfl (lv_at hl 0 rfl) ?_
                    refine mg_sheetSize X P dX7_copy_89 ?_
                    refine lv_iload_n hx hb dX7_copy_92 rfl (lv_at hl 3 rfl) ?_
                    refine m_iald X P 27 rfl (by decide) hw.1 dX7_copy_93 ?_
                    replace hw := hw.2
                    refine lv_icmp_gt (tgt := 124) hx hb dX7_copy_94 (by decide) (fun c_12 => ?_) (fun c_12 => ?_)
                    · replace hw := hw.1 c_12
                      refine lv_bipush (v := (-12)) hx hb dX7_copy_124 (by decide) ?_
                      exact m_iret X P hr hw dX7_copy_126
                    · replace hw := hw.2 c_12
                      refine lv_iload hx hb dX7_copy_97 (lv_at hl 5 rfl) ?_
                      refine lv_aload_n hx hb dX7_copy_99 rfl (lv_at hl 0 rfl) ?_
                      refine mg_sheetSize X P dX7_copy_100 ?_
                      refine lv_iload_n hx hb dX7_copy_103 rfl (lv_at hl 1 rfl) ?_
                      refine m_iald X P 27 rfl (by decide) hw.1 dX7_copy_104 ?_
                      replace hw := hw.2
                      refine lv_iload_n hx hb dX7_copy_105 rfl (lv_at hl 2 rfl) ?_
                      refine lv_isub hx hb dX7_copy_106 ?_
                      refine lv_icmp_gt (tgt := 124) hx hb dX7_copy_107 (by decide) (fun c_13 => ?_) (fun c_13 => ?_)
                      · replace hw := hw.1 c_13
                        refine lv_bipush (v := (-12)) hx hb dX7_copy_124 (by decide) ?_
                        exact m_iret X P hr hw dX7_copy_126
                      · replace hw := hw.2 c_13
                        refine lv_iload hx hb dX7_copy_110 (lv_at hl 5 rfl) ?_
                        refine lv_aload_n hx hb dX7_copy_112 rfl (lv_at hl 0 rfl) ?_
                        refine mg_sheetSize X P dX7_copy_113 ?_
                        refine lv_iload_n hx hb dX7_copy_116 rfl (lv_at hl 3 rfl) ?_
                        refine m_iald X P 27 rfl (by decide) hw.1 dX7_copy_117 ?_
                        replace hw := hw.2
                        refine lv_iload hx hb dX7_copy_118 (lv_at hl 4 rfl) ?_
                        refine lv_isub hx hb dX7_copy_120 ?_
                        refine lv_icmp_le (tgt := 127) hx hb dX7_copy_121 (by decide) (fun c_14 => ?_) (fun c_14 => ?_)
                        · replace hw := hw.1 c_14
                          refine lv_bipush (v := 40) hx hb dX7_copy_127 (by decide) ?_
                          refine lv_iload_n hx hb dX7_copy_129 rfl (lv_at hl 1 rfl) ?_
                          refine lv_imul hx hb dX7_copy_130 ?_
                          refine lv_iload_n hx hb dX7_copy_131 rfl (lv_at hl 2 rfl) ?_
                          refine lv_iadd hx hb dX7_copy_132 ?_
                          refine lv_topi (fun x6_15 ex6_15 => ?_)
                          replace hw := hw x6_15 ex6_15
                          refine lv_istore (lv' := [(6, .int x6_15), (0, .ref (ad 0)), (1, .int a1), (2, .int a2), (3, .int a3), (4, .int a4), (5, .int a5)]) hx hb dX7_copy_133 hl (by decide) rfl (fun ls hl => ?_)
                          refine lv_bipush (v := 40) hx hb dX7_copy_135 (by decide) ?_
                          refine lv_iload_n hx hb dX7_copy_137 rfl (lv_at hl 4 rfl) ?_
                          refine lv_imul hx hb dX7_copy_138 ?_
                          refine lv_iload hx hb dX7_copy_139 (lv_at hl 5 rfl) ?_
                          refine lv_iadd hx hb dX7_copy_141 ?_
                          refine lv_topi (fun x7_16 ex7_16 => ?_)
                          replace hw := hw x7_16 ex7_16
                          refine lv_istore (lv' := [(7, .int x7_16), (6, .int x6_15), (0, .ref (ad 0)), (1, .int a1), (2, .int a2), (3, .int a3), (4, .int a4), (5, .int a5)]) hx hb dX7_copy_142 hl (by decide) rfl (fun ls hl => ?_)
                          refine lv_iconst (v := 0) hx hb dX7_copy_144 (by decide) ?_
                          refine lv_istore (lv' := [(8, .int 0), (7, .int x7_16), (6, .int x6_15), (0, .ref (ad 0)), (1, .int a1), (2, .int a2), (3, .int a3), (4, .int a4), (5, .int a5)]) hx hb dX7_copy_145 hl (by decide) rfl (fun ls hl => ?_)
                          obtain ⟨n_22, hw⟩ := hw
                          refine kwm_copy_L147 X hr _ _ _ _    n_22 _ _ _ _ _ P (lv_sub hl [3, 8, 2, 1, 0] rfl) hw
                        · replace hw := hw.2 c_14
                          refine lv_bipush (v := (-12)) hx hb dX7_copy_124 (by decide) ?_
                          exact m_iret X P hr hw dX7_copy_126
          · replace hw := hw.2 c_7
            refine lv_bipush (v := (-13)) hx hb dX7_copy_59 (by decide) ?_
            exact m_iret X P hr hw dX7_copy_61
        · replace hw := hw.2 c_6
          refine lv_bipush (v := (-11)) hx hb dX7_copy_41 (by decide) ?_
          exact m_iret X P hr hw dX7_copy_43
    · replace hw := hw.2 c_4
      refine lv_bipush (v := (-2)) hx hb dX7_copy_18 (by decide) ?_
      exact m_iret X P hr hw dX7_copy_20
-- rates
def wm_rates_J162 (F : tF) (Ar : tA) (y1_20 : Int32) (y3_20 : Int32) (y4_20 : Int32) (y6_20 : Int32) (z0_20 : Int32) (z1_20 : Int32) (Kh64_9 : tF → tA → Int32 → Int32 → Prop) (Q : Int32 → tF → tA → Prop) : Prop :=
  ∀ x5_21 : Int32, x5_21 = (z1_20 + z0_20) → (Kh64_9 F Ar x5_21 (y6_20 + 1))
set_option maxHeartbeats 4000000 in
theorem kwm_rates_J162 {Q : Int32 → tF → tA → Prop} (X : mCx p s m args meth c cX7_rates 9 D cl ci dA dL) (hr : meth.sig.returnType = (some .int)) {F : tF} {Ar : tA} (y1_20 : Int32) (y3_20 : Int32) (y4_20 : Int32) (y6_20 : Int32) (z0_20 : Int32) (z1_20 : Int32) (Kh64_9 : tF → tA → Int32 → Int32 → Prop) {H : Heap} {locs : List Loc} {ls : Array Slot} (P : mP D cl (mReg ad) ci dA dL ad s.heap F Ar H locs) (hl : lv_has ls 9 [(0, .ref (ad 0)), (1, .int y1_20), (3, .int y3_20), (4, .int y4_20), (6, .int y6_20)]) (hw : wm_rates_J162 F Ar y1_20 y3_20 y4_20 y6_20 z0_20 z1_20 Kh64_9 Q) (hKh64_9 : ∀ (F_ : tF) (Ar_ : tA) (w5_ : Int32) (w6_ : Int32) (H : Heap) (locs : List Loc) (ls : Array Slot), mP D cl (mReg ad) ci dA dL ad s.heap F_ Ar_ H locs → lv_has ls 9 [(0, .ref (ad 0)), (1, .int y1_20), (3, .int y3_20), (4, .int y4_20), (5, .int w5_), (6, .int w6_)] → Kh64_9 F_ Ar_ w5_ w6_ → W p l e ({ frames := 3, cells := 0, slots := 0, locals := 69 }) s m args below meth c H locs 0 0 (MQ below (mQi D cl ci dA dL ad Q) args s 0 0 (mReg ad)) (F0 m 64 ls [])) : W p l e ({ frames := 3, cells := 0, slots := 0, locals := 69 }) s m args below meth c H locs 0 0 (MQ below (mQi D cl ci dA dL ad Q) args s 0 0 (mReg ad)) (F0 m 162 ls [.int z0_20, .int z1_20]) := by
  obtain ⟨hx, hb, hml, hown, hts, -, -, hlk⟩ := id X
  have S : CallFix p m c _ _ s args lw_all RX7 := ⟨hx, hb, hml, hown, hts⟩
  refine lv_iadd hx hb dX7_rates_162 ?_
  refine lv_topi (fun x5_21 ex5_21 => ?_)
  replace hw := hw x5_21 ex5_21
  refine lv_istore (lv' := [(5, .int x5_21), (0, .ref (ad 0)), (1, .int y1_20), (3, .int y3_20), (4, .int y4_20), (6, .int y6_20)]) hx hb dX7_rates_163 hl (by decide) rfl (fun ls hl => ?_)
  refine lv_iinc (v := (y6_20 + 1)) (lv' := [(6, .int (y6_20 + 1)), (5, .int x5_21), (0, .ref (ad 0)), (1, .int y1_20), (3, .int y3_20), (4, .int y4_20)]) hx hb dX7_rates_165 hl (k := 5) rfl rfl (by decide) rfl (fun ls hl => ?_)
  refine lv_goto (tgt := 64) hx hb dX7_rates_168 (by decide) ?_
  exact hKh64_9 _ _ _ _ _ _ _ P (lv_sub hl [2, 3, 4, 5, 1, 0] rfl) hw
def wm_rates_L64 (y1_9 : Int32) (y3_9 : Int32) (y4_9 : Int32) (Q : Int32 → tF → tA → Prop) : Nat → tF → tA → Int32 → Int32 → Prop
  | 0, _, _, _, _ => False
  | f64 + 1, F, Ar, y5_9, y6_9 =>
    ((y4_9 ≤ y6_9 → Q y5_9 F Ar) ∧ (¬ y4_9 ≤ y6_9 → ∀ x7_11 : Int32, x7_11 = (y3_9 + (4 * y6_9)) → ((y3_9 < 0 → Q (-12) F Ar) ∧ (¬ y3_9 < 0 → ((x7_11 < y3_9 → Q (-12) F Ar) ∧ (¬ x7_11 < y3_9 → vp_in y1_9 4 ∧ ((x7_11 ≤ ((Ar 27 y1_9.toNatClampNeg) - 4) → ∀ x8_15 : Int32, x8_15 = ((40 * y1_9) + x7_11) → vp_in x8_15 160 ∧ vp_in (x8_15 + 1) 160 ∧ vp_in (x8_15 + 2) 160 ∧ vp_in (x8_15 + 3) 160 ∧ wm_rate F Ar (Ar 28 x8_15.toNatClampNeg) (Ar 28 (x8_15 + 1).toNatClampNeg) (Ar 28 (x8_15 + 2).toNatClampNeg) (Ar 28 (x8_15 + 3).toNatClampNeg) (fun r_16 F_17 Ar_18 => ((r_16 < 0 → (wm_rates_J162 F_17 Ar_18 y1_9 y3_9 y4_9 y6_9 0 y5_9 (wm_rates_L64 y1_9 y3_9 y4_9 Q f64) Q)) ∧ (¬ r_16 < 0 → (wm_rates_J162 F_17 Ar_18 y1_9 y3_9 y4_9 y6_9 1 y5_9 (wm_rates_L64 y1_9 y3_9 y4_9 Q f64) Q))))) ∧ (¬ x7_11 ≤ ((Ar 27 y1_9.toNatClampNeg) - 4) → Q (-12) F Ar))))))))
set_option maxHeartbeats 4000000 in
theorem kwm_rates_L64 {Q : Int32 → tF → tA → Prop} (X : mCx p s m args meth c cX7_rates 9 D cl ci dA dL) (hr : meth.sig.returnType = (some .int)) (y1_9 : Int32) (y3_9 : Int32) (y4_9 : Int32) : ∀ (n : Nat) (F : tF) (Ar : tA) (y5_9 : Int32) (y6_9 : Int32) (H : Heap) (locs : List Loc) (ls : Array Slot), mP D cl (mReg ad) ci dA dL ad s.heap F Ar H locs → lv_has ls 9 [(0, .ref (ad 0)), (1, .int y1_9), (3, .int y3_9), (4, .int y4_9), (5, .int y5_9), (6, .int y6_9)] → wm_rates_L64 y1_9 y3_9 y4_9 Q n F Ar y5_9 y6_9 → W p l e ({ frames := 3, cells := 0, slots := 0, locals := 69 }) s m args below meth c H locs 0 0 (MQ below (mQi D cl ci dA dL ad Q) args s 0 0 (mReg ad)) (F0 m 64 ls []) := by
  obtain ⟨hx, hb, hml, hown, hts, -, -, hlk⟩ := id X
  have S : CallFix p m c _ _ s args lw_all RX7 := ⟨hx, hb, hml, hown, hts⟩
  intro n
  induction n with
  | zero =>
    intro F Ar y5_9 y6_9 H locs ls P hl hw
    exact hw.elim
  | succ n ih =>
    intro F Ar y5_9 y6_9 H locs ls P hl hw
    have hKh64_9 := ih
    refine lv_iload hx hb dX7_rates_64 (lv_at hl 5 rfl) ?_
    refine lv_iload hx hb dX7_rates_66 (lv_at hl 3 rfl) ?_
    refine lv_icmp_ge (tgt := 171) hx hb dX7_rates_68 (by decide) (fun c_10 => ?_) (fun c_10 => ?_)
    · replace hw := hw.1 c_10
      refine lv_iload hx hb dX7_rates_171 (lv_at hl 4 rfl) ?_
      exact m_iret X P hr hw dX7_rates_173
    · replace hw := hw.2 c_10
      refine lv_iload_n hx hb dX7_rates_71 rfl (lv_at hl 2 rfl) ?_
      refine lv_iconst (v := 4) hx hb dX7_rates_72 (by decide) ?_
      refine lv_iload hx hb dX7_rates_73 (lv_at hl 5 rfl) ?_
      refine lv_imul hx hb dX7_rates_75 ?_
      refine lv_iadd hx hb dX7_rates_76 ?_
      refine lv_topi (fun x7_11 ex7_11 => ?_)
      replace hw := hw x7_11 ex7_11
      refine lv_istore (lv' := [(7, .int x7_11), (0, .ref (ad 0)), (1, .int y1_9), (3, .int y3_9), (4, .int y4_9), (5, .int y5_9), (6, .int y6_9)]) hx hb dX7_rates_77 hl (by decide) rfl (fun ls hl => ?_)
      refine lv_iload_n hx hb dX7_rates_79 rfl (lv_at hl 3 rfl) ?_
      refine lv_if_lt (tgt := 102) hx hb dX7_rates_80 (by decide) (fun c_12 => ?_) (fun c_12 => ?_)
      · replace hw := hw.1 c_12
        refine lv_bipush (v := (-12)) hx hb dX7_rates_102 (by decide) ?_
        exact m_iret X P hr hw dX7_rates_104
      · replace hw := hw.2 c_12
        refine lv_iload hx hb dX7_rates_83 (lv_at hl 0 rfl) ?_
        refine lv_iload_n hx hb dX7_rates_85 rfl (lv_at hl 3 rfl) ?_
        refine lv_icmp_lt (tgt := 102) hx hb dX7_rates_86 (by decide) (fun c_13 => ?_) (fun c_13 => ?_)
        · replace hw := hw.1 c_13
          refine lv_bipush (v := (-12)) hx hb dX7_rates_102 (by decide) ?_
          exact m_iret X P hr hw dX7_rates_104
        · replace hw := hw.2 c_13
          refine lv_iload hx hb dX7_rates_89 (lv_at hl 0 rfl) ?_
          refine lv_aload_n hx hb dX7_rates_91 rfl (lv_at hl 1 rfl) ?_
          refine mg_sheetSize X P dX7_rates_92 ?_
          refine lv_iload_n hx hb dX7_rates_95 rfl (lv_at hl 2 rfl) ?_
          refine m_iald X P 27 rfl (by decide) hw.1 dX7_rates_96 ?_
          replace hw := hw.2
          refine lv_iconst (v := 4) hx hb dX7_rates_97 (by decide) ?_
          refine lv_isub hx hb dX7_rates_98 ?_
          refine lv_icmp_le (tgt := 105) hx hb dX7_rates_99 (by decide) (fun c_14 => ?_) (fun c_14 => ?_)
          · replace hw := hw.1 c_14
            refine lv_bipush (v := 40) hx hb dX7_rates_105 (by decide) ?_
            refine lv_iload_n hx hb dX7_rates_107 rfl (lv_at hl 2 rfl) ?_
            refine lv_imul hx hb dX7_rates_108 ?_
            refine lv_iload hx hb dX7_rates_109 (lv_at hl 0 rfl) ?_
            refine lv_iadd hx hb dX7_rates_111 ?_
            refine lv_topi (fun x8_15 ex8_15 => ?_)
            replace hw := hw x8_15 ex8_15
            refine lv_istore (lv' := [(8, .int x8_15), (7, .int x7_11), (0, .ref (ad 0)), (1, .int y1_9), (3, .int y3_9), (4, .int y4_9), (5, .int y5_9), (6, .int y6_9)]) hx hb dX7_rates_112 hl (by decide) rfl (fun ls hl => ?_)
            refine lv_iload hx hb dX7_rates_114 (lv_at hl 6 rfl) ?_
            refine lv_aload_n hx hb dX7_rates_116 rfl (lv_at hl 2 rfl) ?_
            refine lv_aload_n hx hb dX7_rates_117 rfl (lv_at hl 2 rfl) ?_
            refine mg_cells X P dX7_rates_118 ?_
            refine lv_iload hx hb dX7_rates_121 (lv_at hl 0 rfl) ?_
            refine m_iald X P 28 rfl (by decide) hw.1 dX7_rates_123 ?_
            replace hw := hw.2
            refine lv_aload_n hx hb dX7_rates_124 rfl (lv_at hl 2 rfl) ?_
            refine mg_cells X P dX7_rates_125 ?_
            refine lv_iload hx hb dX7_rates_128 (lv_at hl 0 rfl) ?_
            refine lv_iconst (v := 1) hx hb dX7_rates_130 (by decide) ?_
            refine lv_iadd hx hb dX7_rates_131 ?_
            refine m_iald X P 28 rfl (by decide) hw.1 dX7_rates_132 ?_
            replace hw := hw.2
            refine lv_aload_n hx hb dX7_rates_133 rfl (lv_at hl 2 rfl) ?_
            refine mg_cells X P dX7_rates_134 ?_
            refine lv_iload hx hb dX7_rates_137 (lv_at hl 0 rfl) ?_
            refine lv_iconst (v := 2) hx hb dX7_rates_139 (by decide) ?_
            refine lv_iadd hx hb dX7_rates_140 ?_
            refine m_iald X P 28 rfl (by decide) hw.1 dX7_rates_141 ?_
            replace hw := hw.2
            refine lv_aload_n hx hb dX7_rates_142 rfl (lv_at hl 2 rfl) ?_
            refine mg_cells X P dX7_rates_143 ?_
            refine lv_iload hx hb dX7_rates_146 (lv_at hl 0 rfl) ?_
            refine lv_iconst (v := 3) hx hb dX7_rates_148 (by decide) ?_
            refine lv_iadd hx hb dX7_rates_149 ?_
            refine m_iald X P 28 rfl (by decide) hw.1 dX7_rates_150 ?_
            replace hw := hw.2
            refine cwm_rate X P hw ⟨Nat.le_of_ble_eq_true rfl, Nat.le_of_ble_eq_true rfl⟩ hl.1 (Nat.le_of_ble_eq_true rfl) dX7_rates_151 (fun r_16 F_17 Ar_18 H locs hw P => ?_)
            refine lv_if_lt (tgt := 161) hx hb dX7_rates_154 (by decide) (fun c_19 => ?_) (fun c_19 => ?_)
            · replace hw := hw.1 c_19
              refine lv_iconst (v := 0) hx hb dX7_rates_161 (by decide) ?_
              exact kwm_rates_J162 X hr _ _ _ _ _ _ _ P (lv_sub hl [2, 3, 4, 5, 7] rfl) hw hKh64_9
            · replace hw := hw.2 c_19
              refine lv_iconst (v := 1) hx hb dX7_rates_157 (by decide) ?_
              refine lv_goto (tgt := 162) hx hb dX7_rates_158 (by decide) ?_
              exact kwm_rates_J162 X hr _ _ _ _ _ _ _ P (lv_sub hl [2, 3, 4, 5, 7] rfl) hw hKh64_9
          · replace hw := hw.2 c_14
            refine lv_bipush (v := (-12)) hx hb dX7_rates_102 (by decide) ?_
            exact m_iret X P hr hw dX7_rates_104
def wm_rates (F : tF) (Ar : tA) (a1 : Int32) (a2 : Int32) (a3 : Int32) (a4 : Int32) (Q : Int32 → tF → tA → Prop) : Prop :=
  wm_in a1 0 3 (fun r_1 => ((r_1 = 0 → Q (-2) F Ar) ∧ (¬ r_1 = 0 → wm_in a2 0 2 (fun r_3 => ((r_3 = 0 → Q (-2) F Ar) ∧ (¬ r_3 = 0 → wm_in a4 0 10 (fun r_5 => ((¬ r_5 = 0 → vp_in a1 4 ∧ ((¬ (Ar 26 a1.toNatClampNeg) = (-1) → vp_in a1 4 ∧ (((Ar 26 a1.toNatClampNeg) = a2 → (∃ n64, wm_rates_L64 a1 a3 a4 Q n64 F Ar 0 0)) ∧ (¬ (Ar 26 a1.toNatClampNeg) = a2 → Q (-13) F Ar))) ∧ ((Ar 26 a1.toNatClampNeg) = (-1) → Q (-11) F Ar))) ∧ (r_5 = 0 → Q (-2) F Ar)))))))))
set_option maxHeartbeats 4000000 in
theorem twm_rates (l : Launch) (D : va_G) (cl : List vw_C) (ci : Nat) (dA dL : ClassId) (ad : Nat → Nat) (F : tF) (Ar : tA) (a1 : Int32) (a2 : Int32) (a3 : Int32) (a4 : Int32) (Q : Int32 → tF → tA → Prop) (hw : wm_rates F Ar a1 a2 a3 a4 Q) : Met l yX7_rates (ws_ yX7_rates cX7_rates 9 (some .int)) ({ frames := 3, cells := 0, slots := 0, locals := 69 }) (mPc D cl ci dA dL ad F Ar [.int a1, .int a2, .int a3, .int a4]) (mQi D cl ci dA dL ad Q) 0 0 (mReg ad) := by
  refine m_entry (by decide) rfl (Nat.le_of_ble_eq_true rfl) ?_
  intro p e s m below meth c ls X hr P hl
  obtain ⟨hx, hb, hml, hown, hts, -, -, hlk⟩ := id X
  have S : CallFix p m c _ _ s _ lw_all RX7 := ⟨hx, hb, hml, hown, hts⟩
  have hl : lv_has ls 9 [(0, .ref (ad 0)), (1, .int a1), (2, .int a2), (3, .int a3), (4, .int a4)] := hl
  refine lv_iload_n hx hb dX7_rates_0 rfl (lv_at hl 1 rfl) ?_
  refine lv_iconst (v := 0) hx hb dX7_rates_1 (by decide) ?_
  refine lv_iconst (v := 3) hx hb dX7_rates_2 (by decide) ?_
  refine cwm_in S hw ⟨Nat.le_of_ble_eq_true rfl, Nat.le_of_ble_eq_true rfl⟩ hl.1 (Nat.le_of_ble_eq_true rfl) dX7_rates_3 (fun r_1 hw => ?_)
  refine lv_if_eq (tgt := 29) hx hb dX7_rates_6 (by decide) (fun c_2 => ?_) (fun c_2 => ?_)
  · replace hw := hw.1 c_2
    refine lv_bipush (v := (-2)) hx hb dX7_rates_29 (by decide) ?_
    exact m_iret X P hr hw dX7_rates_31
  · replace hw := hw.2 c_2
    refine lv_iload_n hx hb dX7_rates_9 rfl (lv_at hl 2 rfl) ?_
    refine lv_iconst (v := 0) hx hb dX7_rates_10 (by decide) ?_
    refine lv_iconst (v := 2) hx hb dX7_rates_11 (by decide) ?_
    refine cwm_in S hw ⟨Nat.le_of_ble_eq_true rfl, Nat.le_of_ble_eq_true rfl⟩ hl.1 (Nat.le_of_ble_eq_true rfl) dX7_rates_12 (fun r_3 hw => ?_)
    refine lv_if_eq (tgt := 29) hx hb dX7_rates_15 (by decide) (fun c_4 => ?_) (fun c_4 => ?_)
    · replace hw := hw.1 c_4
      refine lv_bipush (v := (-2)) hx hb dX7_rates_29 (by decide) ?_
      exact m_iret X P hr hw dX7_rates_31
    · replace hw := hw.2 c_4
      refine lv_iload hx hb dX7_rates_18 (lv_at hl 4 rfl) ?_
      refine lv_iconst (v := 0) hx hb dX7_rates_20 (by decide) ?_
      refine lv_bipush (v := 10) hx hb dX7_rates_21 (by decide) ?_
      refine cwm_in S hw ⟨Nat.le_of_ble_eq_true rfl, Nat.le_of_ble_eq_true rfl⟩ hl.1 (Nat.le_of_ble_eq_true rfl) dX7_rates_23 (fun r_5 hw => ?_)
      refine lv_if_ne (tgt := 32) hx hb dX7_rates_26 (by decide) (fun c_6 => ?_) (fun c_6 => ?_)
      · replace hw := hw.1 c_6
        refine lv_aload_n hx hb dX7_rates_32 rfl (lv_at hl 0 rfl) ?_
        refine mg_sheetSort X P dX7_rates_33 ?_
        refine lv_iload_n hx hb dX7_rates_36 rfl (lv_at hl 1 rfl) ?_
        refine m_iald X P 26 rfl (by decide) hw.1 dX7_rates_37 ?_
        replace hw := hw.2
        refine lv_iconst (v := (-1)) hx hb dX7_rates_38 (by decide) ?_
        refine lv_icmp_ne (tgt := 45) hx hb dX7_rates_39 (by decide) (fun c_7 => ?_) (fun c_7 => ?_)
        · replace hw := hw.1 c_7
          refine lv_aload_n hx hb dX7_rates_45 rfl (lv_at hl 0 rfl) ?_
          refine mg_sheetSort X P dX7_rates_46 ?_
          refine lv_iload_n hx hb dX7_rates_49 rfl (lv_at hl 1 rfl) ?_
          refine m_iald X P 26 rfl (by decide) hw.1 dX7_rates_50 ?_
          replace hw := hw.2
          refine lv_iload_n hx hb dX7_rates_51 rfl (lv_at hl 2 rfl) ?_
          refine lv_icmp_eq (tgt := 58) hx hb dX7_rates_52 (by decide) (fun c_8 => ?_) (fun c_8 => ?_)
          · replace hw := hw.1 c_8
            refine lv_iconst (v := 0) hx hb dX7_rates_58 (by decide) ?_
            refine lv_istore (lv' := [(5, .int 0), (0, .ref (ad 0)), (1, .int a1), (2, .int a2), (3, .int a3), (4, .int a4)]) hx hb dX7_rates_59 hl (by decide) rfl (fun ls hl => ?_)
            refine lv_iconst (v := 0) hx hb dX7_rates_61 (by decide) ?_
            refine lv_istore (lv' := [(6, .int 0), (5, .int 0), (0, .ref (ad 0)), (1, .int a1), (2, .int a2), (3, .int a3), (4, .int a4)]) hx hb dX7_rates_62 hl (by decide) rfl (fun ls hl => ?_)
            obtain ⟨n_22, hw⟩ := hw
            refine kwm_rates_L64 X hr _ _ _    n_22 _ _ _ _ _ _ _ P (lv_sub hl [2, 3, 5, 6, 1, 0] rfl) hw
          · replace hw := hw.2 c_8
            refine lv_bipush (v := (-13)) hx hb dX7_rates_55 (by decide) ?_
            exact m_iret X P hr hw dX7_rates_57
        · replace hw := hw.2 c_7
          refine lv_bipush (v := (-11)) hx hb dX7_rates_42 (by decide) ?_
          exact m_iret X P hr hw dX7_rates_44
      · replace hw := hw.2 c_6
        refine lv_bipush (v := (-2)) hx hb dX7_rates_29 (by decide) ?_
        exact m_iret X P hr hw dX7_rates_31
-- isUnder
def wm_isUnder_J29 (Q : Int32 → Prop) : Prop :=
  Q 1
set_option maxHeartbeats 4000000 in
theorem kwm_isUnder_J29 {Q : Int32 → Prop} (X : sCx p s m args meth c cX7_isUnder 2 RX7) (hr : meth.sig.returnType = (some .boolean)) {ls : Array Slot} (hl : lv_has ls 2 []) (hw : wm_isUnder_J29 Q) : W p l e ({ frames := 0, cells := 0, slots := 0, locals := 0 }) s m args below meth c s.heap [] 0 0 (MQ below (vp_Si Q) args s 0 0 (fun _ => False)) (F0 m 29 ls []) := by
  obtain ⟨hx, hb, hml, hown, hts, hlk⟩ := id X
  have S : CallFix p m c _ _ s args lw_all RX7 := ⟨hx, hb, hml, hown, hts⟩
  refine lv_iconst (v := 1) hx hb dX7_isUnder_29 (by decide) ?_
  refine lv_goto (tgt := 34) hx hb dX7_isUnder_30 (by decide) ?_
  exact r_zret hx hb hlk hr (Or.inr rfl) hw dX7_isUnder_34
def wm_isUnder_J19 (y0_5 : Int32) (y1_5 : Int32) (Q : Int32 → Prop) : Prop :=
  ((¬ y1_5 = 2 → Q 0) ∧ (y1_5 = 2 → ((¬ y0_5 = 3 → Q 0) ∧ (y0_5 = 3 → (wm_isUnder_J29 Q)))))
set_option maxHeartbeats 4000000 in
theorem kwm_isUnder_J19 {Q : Int32 → Prop} (X : sCx p s m args meth c cX7_isUnder 2 RX7) (hr : meth.sig.returnType = (some .boolean)) (y0_5 : Int32) (y1_5 : Int32) {ls : Array Slot} (hl : lv_has ls 2 [(0, .int y0_5), (1, .int y1_5)]) (hw : wm_isUnder_J19 y0_5 y1_5 Q) : W p l e ({ frames := 0, cells := 0, slots := 0, locals := 0 }) s m args below meth c s.heap [] 0 0 (MQ below (vp_Si Q) args s 0 0 (fun _ => False)) (F0 m 19 ls []) := by
  obtain ⟨hx, hb, hml, hown, hts, hlk⟩ := id X
  have S : CallFix p m c _ _ s args lw_all RX7 := ⟨hx, hb, hml, hown, hts⟩
  refine lv_iload_n hx hb dX7_isUnder_19 rfl (lv_at hl 1 rfl) ?_
  refine lv_iconst (v := 2) hx hb dX7_isUnder_20 (by decide) ?_
  refine lv_icmp_ne (tgt := 33) hx hb dX7_isUnder_21 (by decide) (fun c_6 => ?_) (fun c_6 => ?_)
  · replace hw := hw.1 c_6
    refine lv_iconst (v := 0) hx hb dX7_isUnder_33 (by decide) ?_
    exact r_zret hx hb hlk hr (Or.inl rfl) hw dX7_isUnder_34
  · replace hw := hw.2 c_6
    refine lv_iload_n hx hb dX7_isUnder_24 rfl (lv_at hl 0 rfl) ?_
    refine lv_iconst (v := 3) hx hb dX7_isUnder_25 (by decide) ?_
    refine lv_icmp_ne (tgt := 33) hx hb dX7_isUnder_26 (by decide) (fun c_7 => ?_) (fun c_7 => ?_)
    · replace hw := hw.1 c_7
      refine lv_iconst (v := 0) hx hb dX7_isUnder_33 (by decide) ?_
      exact r_zret hx hb hlk hr (Or.inl rfl) hw dX7_isUnder_34
    · replace hw := hw.2 c_7
      exact kwm_isUnder_J29 X hr   (lv_sub hl [] rfl) hw
def wm_isUnder (a1 : Int32) (a2 : Int32) (Q : Int32 → Prop) : Prop :=
  ((a2 = 0 → (wm_isUnder_J29 Q)) ∧ (¬ a2 = 0 → ((a1 = a2 → (wm_isUnder_J29 Q)) ∧ (¬ a1 = a2 → ((¬ a2 = 1 → (wm_isUnder_J19 a1 a2 Q)) ∧ (a2 = 1 → ((a1 = 5 → (wm_isUnder_J29 Q)) ∧ (¬ a1 = 5 → (wm_isUnder_J19 a1 a2 Q)))))))))
set_option maxHeartbeats 4000000 in
theorem twm_isUnder (l : Launch) (a1 : Int32) (a2 : Int32) (Q : Int32 → Prop) (hw : wm_isUnder a1 a2 Q) : Met l yX7_isUnder (ws_ yX7_isUnder cX7_isUnder 2 (some .boolean)) ({ frames := 0, cells := 0, slots := 0, locals := 0 }) (va_Pc [.int a1, .int a2] (fun _ => True)) (vp_Si Q) 0 0 (fun _ => False) := by
  refine s_entry (by decide) (Nat.le_of_ble_eq_true rfl) ?_
  intro p e s m below meth c ls hx hb hml hown hts hlk hr hl
  have hown : s.vm.findClass RX7 = some m.cls := hown
  have X : sCx p s m _ meth c cX7_isUnder 2 RX7 := ⟨hx, hb, hml, hown, hts, hlk⟩
  have S : CallFix p m c _ _ s _ lw_all RX7 := ⟨hx, hb, hml, hown, hts⟩
  have hl : lv_has ls 2 [(0, .int a1), (1, .int a2)] := hl
  refine lv_iload_n hx hb dX7_isUnder_0 rfl (lv_at hl 1 rfl) ?_
  refine lv_if_eq (tgt := 29) hx hb dX7_isUnder_1 (by decide) (fun c_1 => ?_) (fun c_1 => ?_)
  · replace hw := hw.1 c_1
    exact kwm_isUnder_J29 X hr   (lv_sub hl [] rfl) hw
  · replace hw := hw.2 c_1
    refine lv_iload_n hx hb dX7_isUnder_4 rfl (lv_at hl 0 rfl) ?_
    refine lv_iload_n hx hb dX7_isUnder_5 rfl (lv_at hl 1 rfl) ?_
    refine lv_icmp_eq (tgt := 29) hx hb dX7_isUnder_6 (by decide) (fun c_3 => ?_) (fun c_3 => ?_)
    · replace hw := hw.1 c_3
      exact kwm_isUnder_J29 X hr   (lv_sub hl [] rfl) hw
    · replace hw := hw.2 c_3
      refine lv_iload_n hx hb dX7_isUnder_9 rfl (lv_at hl 1 rfl) ?_
      refine lv_iconst (v := 1) hx hb dX7_isUnder_10 (by decide) ?_
      refine lv_icmp_ne (tgt := 19) hx hb dX7_isUnder_11 (by decide) (fun c_4 => ?_) (fun c_4 => ?_)
      · replace hw := hw.1 c_4
        exact kwm_isUnder_J19 X hr _ _  (lv_sub hl [0, 1] rfl) hw
      · replace hw := hw.2 c_4
        refine lv_iload_n hx hb dX7_isUnder_14 rfl (lv_at hl 0 rfl) ?_
        refine lv_iconst (v := 5) hx hb dX7_isUnder_15 (by decide) ?_
        refine lv_icmp_eq (tgt := 29) hx hb dX7_isUnder_16 (by decide) (fun c_8 => ?_) (fun c_8 => ?_)
        · replace hw := hw.1 c_8
          exact kwm_isUnder_J29 X hr   (lv_sub hl [] rfl) hw
        · replace hw := hw.2 c_8
          exact kwm_isUnder_J19 X hr _ _  (lv_sub hl [0, 1] rfl) hw
theorem cwm_isUnder {Q : Int32 → Prop} {a1 : Int32} {a2 : Int32} {Z : State → Prop} {H : Heap} {locs : List Loc} (S : CallFix p m c cc nL s args lw_all RX7) (hw : wm_isUnder a1 a2 Q) (hR : 0 + 1 ≤ R.frames ∧ 8 + (2 + 11) + 0 ≤ R.locals) (hls : ls.size = nL) (hst : (rest.map fun v => v.category).sum ≤ 8) (hdg : decode cc pc = .ok (.invokestatic 316, 3)) (kk : ∀ r, Q r → W p l e R s m args below meth c H locs 0 0 Z (F0 m (pc + 3) ls (.int r :: rest))) : W p l e R s m args below meth c H locs 0 0 Z (F0 m pc ls (.int a2 :: .int a1 :: rest)) :=
  vp_callSi (s_runR (as := [.int a1, .int a2]) S (twm_isUnder l a1 a2 Q hw) (va_cwS 2 S.2.2.2.2 (lw_S q1758 q1759 q88 q1760) rfl rfl rfl (by decide +kernel) hR) rfl hls hst hdg ⟨Nat.zero_le _, Nat.zero_le _⟩) kk
-- taken
def wm_taken (F : tF) (Ar : tA) (a1 : Int32) (a2 : Int32) (Q : Int32 → Prop) : Prop :=
  wm_in a2 0 6 (fun r_1 => ((¬ r_1 = 0 → wm_in a1 0 23 (fun r_3 => ((¬ r_3 = 0 → (((16 : Int32) ≤ a1 → (((a1 - 16) < (F 8) → (((6 : Int32) ≤ a2 → Q (-13)) ∧ (¬ (6 : Int32) ≤ a2 → vp_in (a1 - 16) 8 ∧ wm_isUnder (Ar 9 (a1 - 16).toNatClampNeg) a2 (fun r_8 => ((r_8 = 0 → Q (-13)) ∧ (¬ r_8 = 0 → Q (a1 - 16))))))) ∧ (¬ (a1 - 16) < (F 8) → Q (-11)))) ∧ (¬ (16 : Int32) ≤ a1 → ((a1 < (F 6) → ((¬ a2 = 6 → Q (-13)) ∧ (a2 = 6 → vp_in a1 16 ∧ Q (Ar 7 a1.toNatClampNeg)))) ∧ (¬ a1 < (F 6) → Q (-11)))))) ∧ (r_3 = 0 → Q (-12))))) ∧ (r_1 = 0 → Q (-2))))
set_option maxHeartbeats 4000000 in
theorem twm_taken (l : Launch) (D : va_G) (cl : List vw_C) (ci : Nat) (dA dL : ClassId) (ad : Nat → Nat) (F : tF) (Ar : tA) (a1 : Int32) (a2 : Int32) (Q : Int32 → Prop) (hw : wm_taken F Ar a1 a2 Q) : Met l yX7_taken (ws_ yX7_taken cX7_taken 3 (some .int)) ({ frames := 1, cells := 0, slots := 0, locals := 22 }) (mPc D cl ci dA dL ad F Ar [.int a1, .int a2]) (vp_Si Q) 0 0 (fun _ => False) := by
  refine m_entry (by decide) rfl (Nat.le_of_ble_eq_true rfl) ?_
  intro p e s m below meth c ls X hr P hl
  obtain ⟨hx, hb, hml, hown, hts, -, -, hlk⟩ := id X
  have S : CallFix p m c _ _ s _ lw_all RX7 := ⟨hx, hb, hml, hown, hts⟩
  have hl : lv_has ls 3 [(0, .ref (ad 0)), (1, .int a1), (2, .int a2)] := hl
  refine lv_iload_n hx hb dX7_taken_0 rfl (lv_at hl 2 rfl) ?_
  refine lv_iconst (v := 0) hx hb dX7_taken_1 (by decide) ?_
  refine lv_bipush (v := 6) hx hb dX7_taken_2 (by decide) ?_
  refine cwm_in S hw ⟨Nat.le_of_ble_eq_true rfl, Nat.le_of_ble_eq_true rfl⟩ hl.1 (Nat.le_of_ble_eq_true rfl) dX7_taken_4 (fun r_1 hw => ?_)
  refine lv_if_ne (tgt := 13) hx hb dX7_taken_7 (by decide) (fun c_2 => ?_) (fun c_2 => ?_)
  · replace hw := hw.1 c_2
    refine lv_iload_n hx hb dX7_taken_13 rfl (lv_at hl 1 rfl) ?_
    refine lv_iconst (v := 0) hx hb dX7_taken_14 (by decide) ?_
    refine lv_bipush (v := 23) hx hb dX7_taken_15 (by decide) ?_
    refine cwm_in S hw ⟨Nat.le_of_ble_eq_true rfl, Nat.le_of_ble_eq_true rfl⟩ hl.1 (Nat.le_of_ble_eq_true rfl) dX7_taken_17 (fun r_3 hw => ?_)
    refine lv_if_ne (tgt := 26) hx hb dX7_taken_20 (by decide) (fun c_4 => ?_) (fun c_4 => ?_)
    · replace hw := hw.1 c_4
      refine lv_iload_n hx hb dX7_taken_26 rfl (lv_at hl 1 rfl) ?_
      refine lv_bipush (v := 16) hx hb dX7_taken_27 (by decide) ?_
      refine lv_icmp_ge (tgt := 63) hx hb dX7_taken_29 (by decide) (fun c_5 => ?_) (fun c_5 => ?_)
      · replace hw := hw.1 c_5
        refine lv_iload_n hx hb dX7_taken_63 rfl (lv_at hl 1 rfl) ?_
        refine lv_bipush (v := 16) hx hb dX7_taken_64 (by decide) ?_
        refine lv_isub hx hb dX7_taken_66 ?_
        refine lv_aload_n hx hb dX7_taken_67 rfl (lv_at hl 0 rfl) ?_
        refine mg_ways X P dX7_taken_68 ?_
        refine lv_icmp_lt (tgt := 79) hx hb dX7_taken_71 (by decide) (fun c_6 => ?_) (fun c_6 => ?_)
        · replace hw := hw.1 c_6
          refine lv_iload_n hx hb dX7_taken_79 rfl (lv_at hl 2 rfl) ?_
          refine lv_bipush (v := 6) hx hb dX7_taken_80 (by decide) ?_
          refine lv_icmp_ge (tgt := 108) hx hb dX7_taken_82 (by decide) (fun c_7 => ?_) (fun c_7 => ?_)
          · replace hw := hw.1 c_7
            refine lv_bipush (v := (-13)) hx hb dX7_taken_108 (by decide) ?_
            exact r_iret hx hb hlk hr hw dX7_taken_110
          · replace hw := hw.2 c_7
            refine lv_aload_n hx hb dX7_taken_85 rfl (lv_at hl 0 rfl) ?_
            refine mg_kind X P dX7_taken_86 ?_
            refine lv_iload_n hx hb dX7_taken_89 rfl (lv_at hl 1 rfl) ?_
            refine lv_bipush (v := 16) hx hb dX7_taken_90 (by decide) ?_
            refine lv_isub hx hb dX7_taken_92 ?_
            refine m_iald X P 9 rfl (by decide) hw.1 dX7_taken_93 ?_
            replace hw := hw.2
            refine lv_iload_n hx hb dX7_taken_94 rfl (lv_at hl 2 rfl) ?_
            refine cwm_isUnder S hw ⟨Nat.le_of_ble_eq_true rfl, Nat.le_of_ble_eq_true rfl⟩ hl.1 (Nat.le_of_ble_eq_true rfl) dX7_taken_95 (fun r_8 hw => ?_)
            refine lv_if_eq (tgt := 108) hx hb dX7_taken_98 (by decide) (fun c_9 => ?_) (fun c_9 => ?_)
            · replace hw := hw.1 c_9
              refine lv_bipush (v := (-13)) hx hb dX7_taken_108 (by decide) ?_
              exact r_iret hx hb hlk hr hw dX7_taken_110
            · replace hw := hw.2 c_9
              refine lv_iload_n hx hb dX7_taken_101 rfl (lv_at hl 1 rfl) ?_
              refine lv_bipush (v := 16) hx hb dX7_taken_102 (by decide) ?_
              refine lv_isub hx hb dX7_taken_104 ?_
              refine lv_goto (tgt := 110) hx hb dX7_taken_105 (by decide) ?_
              exact r_iret hx hb hlk hr hw dX7_taken_110
        · replace hw := hw.2 c_6
          refine lv_bipush (v := (-11)) hx hb dX7_taken_74 (by decide) ?_
          refine lv_goto (tgt := 110) hx hb dX7_taken_76 (by decide) ?_
          exact r_iret hx hb hlk hr hw dX7_taken_110
      · replace hw := hw.2 c_5
        refine lv_iload_n hx hb dX7_taken_32 rfl (lv_at hl 1 rfl) ?_
        refine lv_aload_n hx hb dX7_taken_33 rfl (lv_at hl 0 rfl) ?_
        refine mg_carts X P dX7_taken_34 ?_
        refine lv_icmp_lt (tgt := 45) hx hb dX7_taken_37 (by decide) (fun c_10 => ?_) (fun c_10 => ?_)
        · replace hw := hw.1 c_10
          refine lv_iload_n hx hb dX7_taken_45 rfl (lv_at hl 2 rfl) ?_
          refine lv_bipush (v := 6) hx hb dX7_taken_46 (by decide) ?_
          refine lv_icmp_ne (tgt := 60) hx hb dX7_taken_48 (by decide) (fun c_11 => ?_) (fun c_11 => ?_)
          · replace hw := hw.1 c_11
            refine lv_bipush (v := (-13)) hx hb dX7_taken_60 (by decide) ?_
            exact r_iret hx hb hlk hr hw dX7_taken_62
          · replace hw := hw.2 c_11
            refine lv_aload_n hx hb dX7_taken_51 rfl (lv_at hl 0 rfl) ?_
            refine mg_sortOf X P dX7_taken_52 ?_
            refine lv_iload_n hx hb dX7_taken_55 rfl (lv_at hl 1 rfl) ?_
            refine m_iald X P 7 rfl (by decide) hw.1 dX7_taken_56 ?_
            replace hw := hw.2
            refine lv_goto (tgt := 62) hx hb dX7_taken_57 (by decide) ?_
            exact r_iret hx hb hlk hr hw dX7_taken_62
        · replace hw := hw.2 c_10
          refine lv_bipush (v := (-11)) hx hb dX7_taken_40 (by decide) ?_
          refine lv_goto (tgt := 62) hx hb dX7_taken_42 (by decide) ?_
          exact r_iret hx hb hlk hr hw dX7_taken_62
    · replace hw := hw.2 c_4
      refine lv_bipush (v := (-12)) hx hb dX7_taken_23 (by decide) ?_
      exact r_iret hx hb hlk hr hw dX7_taken_25
  · replace hw := hw.2 c_2
    refine lv_bipush (v := (-2)) hx hb dX7_taken_10 (by decide) ?_
    exact r_iret hx hb hlk hr hw dX7_taken_12
end MM4
