/-! by gen/model.py: methods of the model, 2 -/
set_option maxRecDepth 100000
section MM2
variable {p : Program} {l : Launch} {e : Env} {R : Room} {s : State} {m : MethodId} {args : Array Value} {below : List Frame} {meth : Method} {c : Code}
variable {cc : ByteArray} {nL pc : Nat} {ls : Array Slot} {rest : List Value} {D : va_G} {cl : List vw_C} {ci : Nat} {dA dL : ClassId} {ad : Nat → Nat}
-- worth
def wm_worth_J191 (F : tF) (Ar : tA) (y1_10 : Int32) (y2_10 : Int32) (y3_10 : Int32) (Kh16_2 : tA → Int32 → Int32 → Prop) (Q : Int32 → tF → tA → Prop) : Prop :=
  (Kh16_2 Ar y2_10 (y3_10 + 1))
set_option maxHeartbeats 4000000 in
theorem kwm_worth_J191 {Q : Int32 → tF → tA → Prop} (X : mCx p s m args meth c cX7_worth 5 D cl ci dA dL) (hr : meth.sig.returnType = (some .int)) {F : tF} {Ar : tA} (y1_10 : Int32) (y2_10 : Int32) (y3_10 : Int32) (Kh16_2 : tA → Int32 → Int32 → Prop) {H : Heap} {locs : List Loc} {ls : Array Slot} (P : mP D cl (mReg ad) ci dA dL ad s.heap F Ar H locs) (hl : lv_has ls 5 [(0, .ref (ad 0)), (1, .int y1_10), (2, .int y2_10), (3, .int y3_10)]) (hw : wm_worth_J191 F Ar y1_10 y2_10 y3_10 Kh16_2 Q) (hKh16_2 : ∀ (Ar_ : tA) (w2_ : Int32) (w3_ : Int32) (H : Heap) (locs : List Loc) (ls : Array Slot), mP D cl (mReg ad) ci dA dL ad s.heap F Ar_ H locs → lv_has ls 5 [(0, .ref (ad 0)), (1, .int y1_10), (2, .int w2_), (3, .int w3_)] → Kh16_2 Ar_ w2_ w3_ → W p l e ({ frames := 1, cells := 0, slots := 0, locals := 22 }) s m args below meth c H locs 0 0 (MQ below (mQi D cl ci dA dL ad Q) args s 0 0 (mReg ad)) (F0 m 16 ls [])) : W p l e ({ frames := 1, cells := 0, slots := 0, locals := 22 }) s m args below meth c H locs 0 0 (MQ below (mQi D cl ci dA dL ad Q) args s 0 0 (mReg ad)) (F0 m 191 ls []) := by
  obtain ⟨hx, hb, hml, hown, hts, -, -, hlk⟩ := id X
  have S : CallFix p m c _ _ s args lw_all RX7 := ⟨hx, hb, hml, hown, hts⟩
  refine lv_iinc (v := (y3_10 + 1)) (lv' := [(3, .int (y3_10 + 1)), (0, .ref (ad 0)), (1, .int y1_10), (2, .int y2_10)]) hx hb dX7_worth_191 hl (k := 3) rfl rfl (by decide) rfl (fun ls hl => ?_)
  refine lv_goto (tgt := 16) hx hb dX7_worth_194 (by decide) ?_
  exact hKh16_2 _ _ _ _ _ _ P (lv_sub hl [1, 2, 3, 0] rfl) hw
def wm_worth_J93 (F : tF) (Ar : tA) (y1_8 : Int32) (y2_8 : Int32) (y3_8 : Int32) (z0_8 : Int32) (z1_8 : Int32) (Kh16_2 : tA → Int32 → Int32 → Prop) (Q : Int32 → tF → tA → Prop) : Prop :=
  vp_in z1_8 200 ∧ ∀ Ar_9 : tA, Ar_9 = aset Ar 38 z1_8.toNatClampNeg z0_8 → (wm_worth_J191 F Ar_9 y1_8 (y2_8 + 1) y3_8 Kh16_2 Q)
set_option maxHeartbeats 4000000 in
theorem kwm_worth_J93 {Q : Int32 → tF → tA → Prop} (X : mCx p s m args meth c cX7_worth 5 D cl ci dA dL) (hr : meth.sig.returnType = (some .int)) {F : tF} {Ar : tA} (y1_8 : Int32) (y2_8 : Int32) (y3_8 : Int32) (z0_8 : Int32) (z1_8 : Int32) (Kh16_2 : tA → Int32 → Int32 → Prop) {H : Heap} {locs : List Loc} {ls : Array Slot} (P : mP D cl (mReg ad) ci dA dL ad s.heap F Ar H locs) (hl : lv_has ls 5 [(0, .ref (ad 0)), (1, .int y1_8), (2, .int y2_8), (3, .int y3_8)]) (hw : wm_worth_J93 F Ar y1_8 y2_8 y3_8 z0_8 z1_8 Kh16_2 Q) (hKh16_2 : ∀ (Ar_ : tA) (w2_ : Int32) (w3_ : Int32) (H : Heap) (locs : List Loc) (ls : Array Slot), mP D cl (mReg ad) ci dA dL ad s.heap F Ar_ H locs → lv_has ls 5 [(0, .ref (ad 0)), (1, .int y1_8), (2, .int w2_), (3, .int w3_)] → Kh16_2 Ar_ w2_ w3_ → W p l e ({ frames := 1, cells := 0, slots := 0, locals := 22 }) s m args below meth c H locs 0 0 (MQ below (mQi D cl ci dA dL ad Q) args s 0 0 (mReg ad)) (F0 m 16 ls [])) : W p l e ({ frames := 1, cells := 0, slots := 0, locals := 22 }) s m args below meth c H locs 0 0 (MQ below (mQi D cl ci dA dL ad Q) args s 0 0 (mReg ad)) (F0 m 93 ls [.int z0_8, .int z1_8, .ref (ad 39)]) := by
  obtain ⟨hx, hb, hml, hown, hts, -, -, hlk⟩ := id X
  have S : CallFix p m c _ _ s args lw_all RX7 := ⟨hx, hb, hml, hown, hts⟩
  refine m_iast X P 38 rfl (by decide) hw.1 dX7_worth_93 (fun Ar_9 H locs eAr_9 P => ?_)
  replace hw := hw.2
  replace hw := hw Ar_9 eAr_9
  refine lv_iinc (v := (y2_8 + 1)) (lv' := [(2, .int (y2_8 + 1)), (0, .ref (ad 0)), (1, .int y1_8), (3, .int y3_8)]) hx hb dX7_worth_94 hl (k := 2) rfl rfl (by decide) rfl (fun ls hl => ?_)
  refine lv_goto (tgt := 191) hx hb dX7_worth_97 (by decide) ?_
  exact kwm_worth_J191 X hr _ _ _ _ P (lv_sub hl [1, 2, 0, 3] rfl) hw hKh16_2
def wm_worth_J66 (F : tF) (Ar : tA) (y1_6 : Int32) (y2_6 : Int32) (y3_6 : Int32) (y4_6 : Int32) (Kh16_2 : tA → Int32 → Int32 → Prop) (Q : Int32 → tF → tA → Prop) : Prop :=
  (((11 : Int32) ≤ y4_6 → (wm_worth_J93 F Ar y1_6 y2_6 y3_6 (y4_6 - 100000) y2_6 Kh16_2 Q)) ∧ (¬ (11 : Int32) ≤ y4_6 → vp_in y4_6 6 ∧ (wm_worth_J93 F Ar y1_6 y2_6 y3_6 (Ar 39 y4_6.toNatClampNeg) y2_6 Kh16_2 Q)))
set_option maxHeartbeats 4000000 in
theorem kwm_worth_J66 {Q : Int32 → tF → tA → Prop} (X : mCx p s m args meth c cX7_worth 5 D cl ci dA dL) (hr : meth.sig.returnType = (some .int)) {F : tF} {Ar : tA} (y1_6 : Int32) (y2_6 : Int32) (y3_6 : Int32) (y4_6 : Int32) (Kh16_2 : tA → Int32 → Int32 → Prop) {H : Heap} {locs : List Loc} {ls : Array Slot} (P : mP D cl (mReg ad) ci dA dL ad s.heap F Ar H locs) (hl : lv_has ls 5 [(0, .ref (ad 0)), (1, .int y1_6), (2, .int y2_6), (3, .int y3_6), (4, .int y4_6)]) (hw : wm_worth_J66 F Ar y1_6 y2_6 y3_6 y4_6 Kh16_2 Q) (hKh16_2 : ∀ (Ar_ : tA) (w2_ : Int32) (w3_ : Int32) (H : Heap) (locs : List Loc) (ls : Array Slot), mP D cl (mReg ad) ci dA dL ad s.heap F Ar_ H locs → lv_has ls 5 [(0, .ref (ad 0)), (1, .int y1_6), (2, .int w2_), (3, .int w3_)] → Kh16_2 Ar_ w2_ w3_ → W p l e ({ frames := 1, cells := 0, slots := 0, locals := 22 }) s m args below meth c H locs 0 0 (MQ below (mQi D cl ci dA dL ad Q) args s 0 0 (mReg ad)) (F0 m 16 ls [])) : W p l e ({ frames := 1, cells := 0, slots := 0, locals := 22 }) s m args below meth c H locs 0 0 (MQ below (mQi D cl ci dA dL ad Q) args s 0 0 (mReg ad)) (F0 m 66 ls []) := by
  obtain ⟨hx, hb, hml, hown, hts, -, -, hlk⟩ := id X
  have S : CallFix p m c _ _ s args lw_all RX7 := ⟨hx, hb, hml, hown, hts⟩
  refine lv_aload_n hx hb dX7_worth_66 rfl (lv_at hl 0 rfl) ?_
  refine mg_stack X P dX7_worth_67 ?_
  refine lv_iload_n hx hb dX7_worth_70 rfl (lv_at hl 2 rfl) ?_
  refine lv_iload hx hb dX7_worth_71 (lv_at hl 4 rfl) ?_
  refine lv_bipush (v := 11) hx hb dX7_worth_73 (by decide) ?_
  refine lv_icmp_ge (tgt := 88) hx hb dX7_worth_75 (by decide) (fun c_7 => ?_) (fun c_7 => ?_)
  · replace hw := hw.1 c_7
    refine lv_iload hx hb dX7_worth_88 (lv_at hl 4 rfl) ?_
    refine lv_ldc (v := 100000) hx hb hown (hts _ q1543) dX7_worth_90 ?_
    refine lv_isub hx hb dX7_worth_92 ?_
    exact kwm_worth_J93 X hr _ _ _ _ _ _ P (lv_sub hl [0, 1, 2, 3] rfl) hw hKh16_2
  · replace hw := hw.2 c_7
    refine lv_aload_n hx hb dX7_worth_78 rfl (lv_at hl 0 rfl) ?_
    refine mg_named X P dX7_worth_79 ?_
    refine lv_iload hx hb dX7_worth_82 (lv_at hl 4 rfl) ?_
    refine m_iald X P 39 rfl (by decide) hw.1 dX7_worth_84 ?_
    replace hw := hw.2
    refine lv_goto (tgt := 93) hx hb dX7_worth_85 (by decide) ?_
    exact kwm_worth_J93 X hr _ _ _ _ _ _ P (lv_sub hl [0, 1, 2, 3] rfl) hw hKh16_2
def wm_worth_J130 (F : tF) (Ar : tA) (y1_18 : Int32) (y2_18 : Int32) (y3_18 : Int32) (z0_18 : Int32) (z1_18 : Int32) (Kh16_2 : tA → Int32 → Int32 → Prop) (Q : Int32 → tF → tA → Prop) : Prop :=
  vp_in z1_18 200 ∧ ∀ Ar_19 : tA, Ar_19 = aset Ar 38 z1_18.toNatClampNeg z0_18 → (wm_worth_J191 F Ar_19 y1_18 y2_18 y3_18 Kh16_2 Q)
set_option maxHeartbeats 4000000 in
theorem kwm_worth_J130 {Q : Int32 → tF → tA → Prop} (X : mCx p s m args meth c cX7_worth 5 D cl ci dA dL) (hr : meth.sig.returnType = (some .int)) {F : tF} {Ar : tA} (y1_18 : Int32) (y2_18 : Int32) (y3_18 : Int32) (z0_18 : Int32) (z1_18 : Int32) (Kh16_2 : tA → Int32 → Int32 → Prop) {H : Heap} {locs : List Loc} {ls : Array Slot} (P : mP D cl (mReg ad) ci dA dL ad s.heap F Ar H locs) (hl : lv_has ls 5 [(0, .ref (ad 0)), (1, .int y1_18), (2, .int y2_18), (3, .int y3_18)]) (hw : wm_worth_J130 F Ar y1_18 y2_18 y3_18 z0_18 z1_18 Kh16_2 Q) (hKh16_2 : ∀ (Ar_ : tA) (w2_ : Int32) (w3_ : Int32) (H : Heap) (locs : List Loc) (ls : Array Slot), mP D cl (mReg ad) ci dA dL ad s.heap F Ar_ H locs → lv_has ls 5 [(0, .ref (ad 0)), (1, .int y1_18), (2, .int w2_), (3, .int w3_)] → Kh16_2 Ar_ w2_ w3_ → W p l e ({ frames := 1, cells := 0, slots := 0, locals := 22 }) s m args below meth c H locs 0 0 (MQ below (mQi D cl ci dA dL ad Q) args s 0 0 (mReg ad)) (F0 m 16 ls [])) : W p l e ({ frames := 1, cells := 0, slots := 0, locals := 22 }) s m args below meth c H locs 0 0 (MQ below (mQi D cl ci dA dL ad Q) args s 0 0 (mReg ad)) (F0 m 130 ls [.int z0_18, .int z1_18, .ref (ad 39)]) := by
  obtain ⟨hx, hb, hml, hown, hts, -, -, hlk⟩ := id X
  have S : CallFix p m c _ _ s args lw_all RX7 := ⟨hx, hb, hml, hown, hts⟩
  refine m_iast X P 38 rfl (by decide) hw.1 dX7_worth_130 (fun Ar_19 H locs eAr_19 P => ?_)
  replace hw := hw.2
  replace hw := hw Ar_19 eAr_19
  refine lv_goto (tgt := 191) hx hb dX7_worth_131 (by decide) ?_
  exact kwm_worth_J191 X hr _ _ _ _ P (lv_sub hl [0, 1, 2, 3] rfl) hw hKh16_2
def wm_worth_L16 (F : tF) (y1_2 : Int32) (Kx197_2 : tA → Prop) (Q : Int32 → tF → tA → Prop) : Nat → tA → Int32 → Int32 → Prop
  | 0, _, _, _ => False
  | f16 + 1, Ar, y2_2, y3_2 =>
    vp_in (((4 * (F 17)) + y1_2) + 1) 24 ∧ (((Ar 15 (((4 * (F 17)) + y1_2) + 1).toNatClampNeg) ≤ y3_2 → (Kx197_2 Ar)) ∧ (¬ (Ar 15 (((4 * (F 17)) + y1_2) + 1).toNatClampNeg) ≤ y3_2 → vp_in ((200 * (F 17)) + y3_2) 1200 ∧ ∀ x4_4 : Int32, x4_4 = (Ar 14 ((200 * (F 17)) + y3_2).toNatClampNeg) → (((100000 : Int32) ≤ x4_4 → (wm_worth_J66 F Ar y1_2 y2_2 y3_2 x4_4 (wm_worth_L16 F y1_2 Kx197_2 Q f16) Q)) ∧ (¬ (100000 : Int32) ≤ x4_4 → (((11 : Int32) ≤ x4_4 → ((¬ x4_4 = 13 → ((¬ x4_4 = 19 → vp_in ((y2_2 + (-1)) - 1) 200 ∧ vp_in (y2_2 + (-1)) 200 ∧ wm_two x4_4 (Ar 38 ((y2_2 + (-1)) - 1).toNatClampNeg) (Ar 38 (y2_2 + (-1)).toNatClampNeg) (fun r_14 => vp_in ((y2_2 + (-1)) - 1) 200 ∧ ∀ Ar_15 : tA, Ar_15 = aset Ar 38 ((y2_2 + (-1)) - 1).toNatClampNeg r_14 → (wm_worth_J191 F Ar_15 y1_2 (y2_2 + (-1)) y3_2 (wm_worth_L16 F y1_2 Kx197_2 Q f16) Q))) ∧ (x4_4 = 19 → vp_in (y2_2 - 1) 200 ∧ vp_in (y2_2 - 1) 200 ∧ ∀ Ar_16 : tA, Ar_16 = aset Ar 38 (y2_2 - 1).toNatClampNeg (-(Ar 38 (y2_2 - 1).toNatClampNeg)) → (wm_worth_J191 F Ar_16 y1_2 y2_2 y3_2 (wm_worth_L16 F y1_2 Kx197_2 Q f16) Q)))) ∧ (x4_4 = 13 → vp_in (y2_2 - 1) 200 ∧ ((¬ (Ar 38 (y2_2 - 1).toNatClampNeg) = 0 → (wm_worth_J130 F Ar y1_2 y2_2 y3_2 0 (y2_2 - 1) (wm_worth_L16 F y1_2 Kx197_2 Q f16) Q)) ∧ ((Ar 38 (y2_2 - 1).toNatClampNeg) = 0 → (wm_worth_J130 F Ar y1_2 y2_2 y3_2 1 (y2_2 - 1) (wm_worth_L16 F y1_2 Kx197_2 Q f16) Q)))))) ∧ (¬ (11 : Int32) ≤ x4_4 → (wm_worth_J66 F Ar y1_2 y2_2 y3_2 x4_4 (wm_worth_L16 F y1_2 Kx197_2 Q f16) Q)))))))
set_option maxHeartbeats 4000000 in
theorem kwm_worth_L16 {Q : Int32 → tF → tA → Prop} (X : mCx p s m args meth c cX7_worth 5 D cl ci dA dL) (hr : meth.sig.returnType = (some .int)) (F : tF) (y1_2 : Int32) (Kx197_2 : tA → Prop) (hKx197_2 : ∀ (Ar_ : tA) (H : Heap) (locs : List Loc) (ls : Array Slot), mP D cl (mReg ad) ci dA dL ad s.heap F Ar_ H locs → lv_has ls 5 [(0, .ref (ad 0))] → Kx197_2 Ar_ → W p l e ({ frames := 1, cells := 0, slots := 0, locals := 22 }) s m args below meth c H locs 0 0 (MQ below (mQi D cl ci dA dL ad Q) args s 0 0 (mReg ad)) (F0 m 197 ls [])) : ∀ (n : Nat) (Ar : tA) (y2_2 : Int32) (y3_2 : Int32) (H : Heap) (locs : List Loc) (ls : Array Slot), mP D cl (mReg ad) ci dA dL ad s.heap F Ar H locs → lv_has ls 5 [(0, .ref (ad 0)), (1, .int y1_2), (2, .int y2_2), (3, .int y3_2)] → wm_worth_L16 F y1_2 Kx197_2 Q n Ar y2_2 y3_2 → W p l e ({ frames := 1, cells := 0, slots := 0, locals := 22 }) s m args below meth c H locs 0 0 (MQ below (mQi D cl ci dA dL ad Q) args s 0 0 (mReg ad)) (F0 m 16 ls []) := by
  obtain ⟨hx, hb, hml, hown, hts, -, -, hlk⟩ := id X
  have S : CallFix p m c _ _ s args lw_all RX7 := ⟨hx, hb, hml, hown, hts⟩
  intro n
  induction n with
  | zero =>
    intro Ar y2_2 y3_2 H locs ls P hl hw
    exact hw.elim
  | succ n ih =>
    intro Ar y2_2 y3_2 H locs ls P hl hw
    have hKh16_2 := ih
    refine lv_iload_n hx hb dX7_worth_16 rfl (lv_at hl 3 rfl) ?_
    refine lv_aload_n hx hb dX7_worth_17 rfl (lv_at hl 0 rfl) ?_
    refine mg_starts X P dX7_worth_18 ?_
    refine lv_iconst (v := 4) hx hb dX7_worth_21 (by decide) ?_
    refine lv_aload_n hx hb dX7_worth_22 rfl (lv_at hl 0 rfl) ?_
    refine mg_rule X P dX7_worth_23 ?_
    refine lv_imul hx hb dX7_worth_26 ?_
    refine lv_iload_n hx hb dX7_worth_27 rfl (lv_at hl 1 rfl) ?_
    refine lv_iadd hx hb dX7_worth_28 ?_
    refine lv_iconst (v := 1) hx hb dX7_worth_29 (by decide) ?_
    refine lv_iadd hx hb dX7_worth_30 ?_
    refine m_iald X P 15 rfl (by decide) hw.1 dX7_worth_31 ?_
    replace hw := hw.2
    refine lv_icmp_ge (tgt := 197) hx hb dX7_worth_32 (by decide) (fun c_3 => ?_) (fun c_3 => ?_)
    · replace hw := hw.1 c_3
      exact hKx197_2 _ _ _ _ P (lv_sub hl [0] rfl) hw
    · replace hw := hw.2 c_3
      refine lv_aload_n hx hb dX7_worth_35 rfl (lv_at hl 0 rfl) ?_
      refine mg_codes X P dX7_worth_36 ?_
      refine lv_sipush (v := 200) hx hb dX7_worth_39 (by decide) ?_
      refine lv_aload_n hx hb dX7_worth_42 rfl (lv_at hl 0 rfl) ?_
      refine mg_rule X P dX7_worth_43 ?_
      refine lv_imul hx hb dX7_worth_46 ?_
      refine lv_iload_n hx hb dX7_worth_47 rfl (lv_at hl 3 rfl) ?_
      refine lv_iadd hx hb dX7_worth_48 ?_
      refine m_iald X P 14 rfl (by decide) hw.1 dX7_worth_49 ?_
      replace hw := hw.2
      refine lv_topi (fun x4_4 ex4_4 => ?_)
      replace hw := hw x4_4 ex4_4
      refine lv_istore (lv' := [(4, .int x4_4), (0, .ref (ad 0)), (1, .int y1_2), (2, .int y2_2), (3, .int y3_2)]) hx hb dX7_worth_50 hl (by decide) rfl (fun ls hl => ?_)
      refine lv_iload hx hb dX7_worth_52 (lv_at hl 0 rfl) ?_
      refine lv_ldc (v := 100000) hx hb hown (hts _ q1543) dX7_worth_54 ?_
      refine lv_icmp_ge (tgt := 66) hx hb dX7_worth_56 (by decide) (fun c_5 => ?_) (fun c_5 => ?_)
      · replace hw := hw.1 c_5
        exact kwm_worth_J66 X hr _ _ _ _ _ P (lv_sub hl [1, 2, 3, 4, 0] rfl) hw hKh16_2
      · replace hw := hw.2 c_5
        refine lv_iload hx hb dX7_worth_59 (lv_at hl 0 rfl) ?_
        refine lv_bipush (v := 11) hx hb dX7_worth_61 (by decide) ?_
        refine lv_icmp_ge (tgt := 100) hx hb dX7_worth_63 (by decide) (fun c_11 => ?_) (fun c_11 => ?_)
        · replace hw := hw.1 c_11
          refine lv_iload hx hb dX7_worth_100 (lv_at hl 0 rfl) ?_
          refine lv_bipush (v := 13) hx hb dX7_worth_102 (by decide) ?_
          refine lv_icmp_ne (tgt := 134) hx hb dX7_worth_104 (by decide) (fun c_12 => ?_) (fun c_12 => ?_)
          · replace hw := hw.1 c_12
            refine lv_iload hx hb dX7_worth_134 (lv_at hl 0 rfl) ?_
            refine lv_bipush (v := 19) hx hb dX7_worth_136 (by decide) ?_
            refine lv_icmp_ne (tgt := 161) hx hb dX7_worth_138 (by decide) (fun c_13 => ?_) (fun c_13 => ?_)
            · replace hw := hw.1 c_13
              refine lv_iinc (v := (y2_2 + (-1))) (lv' := [(2, .int (y2_2 + (-1))), (4, .int x4_4), (0, .ref (ad 0)), (1, .int y1_2), (3, .int y3_2)]) hx hb dX7_worth_161 hl (k := 3) rfl rfl (by decide) rfl (fun ls hl => ?_)
              refine lv_aload_n hx hb dX7_worth_164 rfl (lv_at hl 2 rfl) ?_
              refine mg_stack X P dX7_worth_165 ?_
              refine lv_iload_n hx hb dX7_worth_168 rfl (lv_at hl 0 rfl) ?_
              refine lv_iconst (v := 1) hx hb dX7_worth_169 (by decide) ?_
              refine lv_isub hx hb dX7_worth_170 ?_
              refine lv_iload hx hb dX7_worth_171 (lv_at hl 1 rfl) ?_
              refine lv_aload_n hx hb dX7_worth_173 rfl (lv_at hl 2 rfl) ?_
              refine mg_stack X P dX7_worth_174 ?_
              refine lv_iload_n hx hb dX7_worth_177 rfl (lv_at hl 0 rfl) ?_
              refine lv_iconst (v := 1) hx hb dX7_worth_178 (by decide) ?_
              refine lv_isub hx hb dX7_worth_179 ?_
              refine m_iald X P 38 rfl (by decide) hw.1 dX7_worth_180 ?_
              replace hw := hw.2
              refine lv_aload_n hx hb dX7_worth_181 rfl (lv_at hl 2 rfl) ?_
              refine mg_stack X P dX7_worth_182 ?_
              refine lv_iload_n hx hb dX7_worth_185 rfl (lv_at hl 0 rfl) ?_
              refine m_iald X P 38 rfl (by decide) hw.1 dX7_worth_186 ?_
              replace hw := hw.2
              refine cwm_two S hw ⟨Nat.le_of_ble_eq_true rfl, Nat.le_of_ble_eq_true rfl⟩ hl.1 (Nat.le_of_ble_eq_true rfl) dX7_worth_187 (fun r_14 hw => ?_)
              refine m_iast X P 38 rfl (by decide) hw.1 dX7_worth_190 (fun Ar_15 H locs eAr_15 P => ?_)
              replace hw := hw.2
              replace hw := hw Ar_15 eAr_15
              exact kwm_worth_J191 X hr _ _ _ _ P (lv_sub hl [2, 3, 0, 4] rfl) hw hKh16_2
            · replace hw := hw.2 c_13
              refine lv_aload_n hx hb dX7_worth_141 rfl (lv_at hl 1 rfl) ?_
              refine mg_stack X P dX7_worth_142 ?_
              refine lv_iload_n hx hb dX7_worth_145 rfl (lv_at hl 3 rfl) ?_
              refine lv_iconst (v := 1) hx hb dX7_worth_146 (by decide) ?_
              refine lv_isub hx hb dX7_worth_147 ?_
              refine lv_aload_n hx hb dX7_worth_148 rfl (lv_at hl 1 rfl) ?_
              refine mg_stack X P dX7_worth_149 ?_
              refine lv_iload_n hx hb dX7_worth_152 rfl (lv_at hl 3 rfl) ?_
              refine lv_iconst (v := 1) hx hb dX7_worth_153 (by decide) ?_
              refine lv_isub hx hb dX7_worth_154 ?_
              refine m_iald X P 38 rfl (by decide) hw.1 dX7_worth_155 ?_
              replace hw := hw.2
              refine lv_ineg hx hb dX7_worth_156 ?_
              refine m_iast X P 38 rfl (by decide) hw.1 dX7_worth_157 (fun Ar_16 H locs eAr_16 P => ?_)
              replace hw := hw.2
              replace hw := hw Ar_16 eAr_16
              refine lv_goto (tgt := 191) hx hb dX7_worth_158 (by decide) ?_
              exact kwm_worth_J191 X hr _ _ _ _ P (lv_sub hl [1, 2, 3, 4] rfl) hw hKh16_2
          · replace hw := hw.2 c_12
            refine lv_aload_n hx hb dX7_worth_107 rfl (lv_at hl 1 rfl) ?_
            refine mg_stack X P dX7_worth_108 ?_
            refine lv_iload_n hx hb dX7_worth_111 rfl (lv_at hl 3 rfl) ?_
            refine lv_iconst (v := 1) hx hb dX7_worth_112 (by decide) ?_
            refine lv_isub hx hb dX7_worth_113 ?_
            refine lv_aload_n hx hb dX7_worth_114 rfl (lv_at hl 1 rfl) ?_
            refine mg_stack X P dX7_worth_115 ?_
            refine lv_iload_n hx hb dX7_worth_118 rfl (lv_at hl 3 rfl) ?_
            refine lv_iconst (v := 1) hx hb dX7_worth_119 (by decide) ?_
            refine lv_isub hx hb dX7_worth_120 ?_
            refine m_iald X P 38 rfl (by decide) hw.1 dX7_worth_121 ?_
            replace hw := hw.2
            refine lv_if_ne (tgt := 129) hx hb dX7_worth_122 (by decide) (fun c_17 => ?_) (fun c_17 => ?_)
            · replace hw := hw.1 c_17
              refine lv_iconst (v := 0) hx hb dX7_worth_129 (by decide) ?_
              exact kwm_worth_J130 X hr _ _ _ _ _ _ P (lv_sub hl [1, 2, 3, 4] rfl) hw hKh16_2
            · replace hw := hw.2 c_17
              refine lv_iconst (v := 1) hx hb dX7_worth_125 (by decide) ?_
              refine lv_goto (tgt := 130) hx hb dX7_worth_126 (by decide) ?_
              exact kwm_worth_J130 X hr _ _ _ _ _ _ P (lv_sub hl [1, 2, 3, 4] rfl) hw hKh16_2
        · replace hw := hw.2 c_11
          exact kwm_worth_J66 X hr _ _ _ _ _ P (lv_sub hl [1, 2, 3, 4, 0] rfl) hw hKh16_2
def wm_worth (F : tF) (Ar : tA) (a1 : Int32) (Q : Int32 → tF → tA → Prop) : Prop :=
  vp_in ((4 * (F 17)) + a1) 24 ∧ ∀ x3_1 : Int32, x3_1 = (Ar 15 ((4 * (F 17)) + a1).toNatClampNeg) → (∃ n16, wm_worth_L16 F a1 (fun (Ar_20 : tA) => Q (Ar_20 38 (0 : Int32).toNatClampNeg) F Ar_20) Q n16 Ar 0 x3_1)
set_option maxHeartbeats 4000000 in
theorem twm_worth (l : Launch) (D : va_G) (cl : List vw_C) (ci : Nat) (dA dL : ClassId) (ad : Nat → Nat) (F : tF) (Ar : tA) (a1 : Int32) (Q : Int32 → tF → tA → Prop) (hw : wm_worth F Ar a1 Q) : Met l yX7_worth (ws_ yX7_worth cX7_worth 5 (some .int)) ({ frames := 1, cells := 0, slots := 0, locals := 22 }) (mPc D cl ci dA dL ad F Ar [.int a1]) (mQi D cl ci dA dL ad Q) 0 0 (mReg ad) := by
  refine m_entry (by decide) rfl (Nat.le_of_ble_eq_true rfl) ?_
  intro p e s m below meth c ls X hr P hl
  obtain ⟨hx, hb, hml, hown, hts, -, -, hlk⟩ := id X
  have S : CallFix p m c _ _ s _ lw_all RX7 := ⟨hx, hb, hml, hown, hts⟩
  have hl : lv_has ls 5 [(0, .ref (ad 0)), (1, .int a1)] := hl
  refine lv_iconst (v := 0) hx hb dX7_worth_0 (by decide) ?_
  refine lv_istore_n (lv' := [(2, .int 0), (0, .ref (ad 0)), (1, .int a1)]) hx hb dX7_worth_1 rfl hl (by decide) rfl (fun ls hl => ?_)
  refine lv_aload_n hx hb dX7_worth_2 rfl (lv_at hl 1 rfl) ?_
  refine mg_starts X P dX7_worth_3 ?_
  refine lv_iconst (v := 4) hx hb dX7_worth_6 (by decide) ?_
  refine lv_aload_n hx hb dX7_worth_7 rfl (lv_at hl 1 rfl) ?_
  refine mg_rule X P dX7_worth_8 ?_
  refine lv_imul hx hb dX7_worth_11 ?_
  refine lv_iload_n hx hb dX7_worth_12 rfl (lv_at hl 2 rfl) ?_
  refine lv_iadd hx hb dX7_worth_13 ?_
  refine m_iald X P 15 rfl (by decide) hw.1 dX7_worth_14 ?_
  replace hw := hw.2
  refine lv_topi (fun x3_1 ex3_1 => ?_)
  replace hw := hw x3_1 ex3_1
  refine lv_istore_n (lv' := [(3, .int x3_1), (2, .int 0), (0, .ref (ad 0)), (1, .int a1)]) hx hb dX7_worth_15 rfl hl (by decide) rfl (fun ls hl => ?_)
  obtain ⟨n_21, hw⟩ := hw
  refine kwm_worth_L16 X hr _ _ _   ?_ n_21 _ _ _ _ _ _ P (lv_sub hl [2, 3, 1, 0] rfl) hw
  · intro Ar_20 H locs ls P hl hw
    refine lv_aload_n hx hb dX7_worth_197 rfl (lv_at hl 0 rfl) ?_
    refine mg_stack X P dX7_worth_198 ?_
    refine lv_iconst (v := 0) hx hb dX7_worth_201 (by decide) ?_
    refine m_iald X P 38 rfl (by decide) (vin_of (by decide)) dX7_worth_202 ?_
    exact m_iret X P hr hw dX7_worth_203
theorem cwm_worth {Q : Int32 → tF → tA → Prop} {a1 : Int32} {Z : State → Prop} {H : Heap} {locs : List Loc} {F : tF} {Ar : tA} (X : mCx p s m args meth c cc nL D cl ci dA dL) (P : mP D cl (mReg ad) ci dA dL ad s.heap F Ar H locs) (hw : wm_worth F Ar a1 Q) (hR : 1 + 1 ≤ R.frames ∧ 8 + (5 + 11) + 22 ≤ R.locals) (hls : ls.size = nL) (hst : (rest.map fun v => v.category).sum ≤ 8) (hdg : decode cc pc = .ok (.invokevirtual 243, 3)) (kk : ∀ (r : Int32) (F1 : tF) (A1 : tA) (H1 : Heap) (locs1 : List Loc), Q r F1 A1 → mP D cl (mReg ad) ci dA dL ad s.heap F1 A1 H1 locs1 → W p l e R s m args below meth c H1 locs1 0 0 Z (F0 m (pc + 3) ls (.int r :: rest))) : W p l e R s m args below meth c H locs 0 0 Z (F0 m pc ls (.int a1 :: .ref (ad 0) :: rest)) := by
  obtain ⟨hx, hb, hml, hown, hts, hK, hc, hlk⟩ := X
  exact va_calli (m_runV (as := [.int a1]) hx hb hml hown hts hK hc P.1 P.2.1 (twm_worth l D cl ci dA dL ad F Ar a1 Q hw) (cwV 1 hts (lw_V q1630 q1632 qs54 q88 q1633) rfl rfl rfl (by decide +kernel) hR) rfl hls hst hdg ⟨Nat.zero_le _, Nat.zero_le _⟩) P.2.2 (fun q _ h => h) (fun q h => h) (fun r u t H1 locs1 ht hvm hp hB _ _ hS => kk r u.1 u.2 H1 locs1 hp ⟨by rw [← ht]; exact hB, P.2.1.to (fun k h => mM_dom.mpr (mM_dom.mp h)), hS⟩)
-- cost
def wm_cost_J83 (F : tF) (Ar : tA) (z0_12 : Int32) (z1_12 : Int32) (Q : Int32 → tF → tA → Prop) : Prop :=
  Q (z1_12 - z0_12) F Ar
set_option maxHeartbeats 4000000 in
theorem kwm_cost_J83 {Q : Int32 → tF → tA → Prop} (X : mCx p s m args meth c cX7_cost 3 D cl ci dA dL) (hr : meth.sig.returnType = (some .int)) {F : tF} {Ar : tA} (z0_12 : Int32) (z1_12 : Int32) {H : Heap} {locs : List Loc} {ls : Array Slot} (P : mP D cl (mReg ad) ci dA dL ad s.heap F Ar H locs) (hl : lv_has ls 3 [(0, .ref (ad 0))]) (hw : wm_cost_J83 F Ar z0_12 z1_12 Q) : W p l e ({ frames := 2, cells := 0, slots := 0, locals := 46 }) s m args below meth c H locs 0 0 (MQ below (mQi D cl ci dA dL ad Q) args s 0 0 (mReg ad)) (F0 m 83 ls [.int z0_12, .int z1_12]) := by
  obtain ⟨hx, hb, hml, hown, hts, -, -, hlk⟩ := id X
  have S : CallFix p m c _ _ s args lw_all RX7 := ⟨hx, hb, hml, hown, hts⟩
  refine lv_isub hx hb dX7_cost_83 ?_
  exact m_iret X P hr hw dX7_cost_84
def wm_cost_J82 (F : tF) (Ar : tA) (z0_11 : Int32) (Q : Int32 → tF → tA → Prop) : Prop :=
  (wm_cost_J83 F Ar 0 z0_11 Q)
set_option maxHeartbeats 4000000 in
theorem kwm_cost_J82 {Q : Int32 → tF → tA → Prop} (X : mCx p s m args meth c cX7_cost 3 D cl ci dA dL) (hr : meth.sig.returnType = (some .int)) {F : tF} {Ar : tA} (z0_11 : Int32) {H : Heap} {locs : List Loc} {ls : Array Slot} (P : mP D cl (mReg ad) ci dA dL ad s.heap F Ar H locs) (hl : lv_has ls 3 [(0, .ref (ad 0))]) (hw : wm_cost_J82 F Ar z0_11 Q) : W p l e ({ frames := 2, cells := 0, slots := 0, locals := 46 }) s m args below meth c H locs 0 0 (MQ below (mQi D cl ci dA dL ad Q) args s 0 0 (mReg ad)) (F0 m 82 ls [.int z0_11]) := by
  obtain ⟨hx, hb, hml, hown, hts, -, -, hlk⟩ := id X
  have S : CallFix p m c _ _ s args lw_all RX7 := ⟨hx, hb, hml, hown, hts⟩
  refine lv_iconst (v := 0) hx hb dX7_cost_82 (by decide) ?_
  exact kwm_cost_J83 X hr _ _ P (lv_sub hl [0] rfl) hw
def wm_cost (F : tF) (Ar : tA) (a1 : Int32) (a2 : Int32) (Q : Int32 → tF → tA → Prop) : Prop :=
  vp_in a2 16 ∧ ((¬ (Ar 40 a2.toNatClampNeg) = 48 → vp_in a2 16 ∧ ((¬ (Ar 42 a2.toNatClampNeg) = (-1) → wm_names F Ar a1 a2 (fun F_4 Ar_5 => wm_worth F_4 Ar_5 0 (fun r_6 F_7 Ar_8 => wm_held r_6 (fun r_9 => vp_in a1 8 ∧ ((¬ (Ar_8 9 a1.toNatClampNeg) = 4 → (wm_cost_J82 F_7 Ar_8 r_9 Q)) ∧ ((Ar_8 9 a1.toNatClampNeg) = 4 → vp_in a2 16 ∧ vp_in a2 16 ∧ ((((Ar_8 42 a2.toNatClampNeg) - (Ar_8 41 a2.toNatClampNeg)) ≤ 4 → (wm_cost_J82 F_7 Ar_8 r_9 Q)) ∧ (¬ ((Ar_8 42 a2.toNatClampNeg) - (Ar_8 41 a2.toNatClampNeg)) ≤ 4 → (wm_cost_J83 F_7 Ar_8 2 r_9 Q))))))))) ∧ ((Ar 42 a2.toNatClampNeg) = (-1) → Q 5000 F Ar))) ∧ ((Ar 40 a2.toNatClampNeg) = 48 → vp_in a2 16 ∧ vp_in (Ar 7 a2.toNatClampNeg) 4 ∧ Q (Ar 4 (Ar 7 a2.toNatClampNeg).toNatClampNeg) F Ar))
set_option maxHeartbeats 4000000 in
theorem twm_cost (l : Launch) (D : va_G) (cl : List vw_C) (ci : Nat) (dA dL : ClassId) (ad : Nat → Nat) (F : tF) (Ar : tA) (a1 : Int32) (a2 : Int32) (Q : Int32 → tF → tA → Prop) (hw : wm_cost F Ar a1 a2 Q) : Met l yX7_cost (ws_ yX7_cost cX7_cost 3 (some .int)) ({ frames := 2, cells := 0, slots := 0, locals := 46 }) (mPc D cl ci dA dL ad F Ar [.int a1, .int a2]) (mQi D cl ci dA dL ad Q) 0 0 (mReg ad) := by
  refine m_entry (by decide) rfl (Nat.le_of_ble_eq_true rfl) ?_
  intro p e s m below meth c ls X hr P hl
  obtain ⟨hx, hb, hml, hown, hts, -, -, hlk⟩ := id X
  have S : CallFix p m c _ _ s _ lw_all RX7 := ⟨hx, hb, hml, hown, hts⟩
  have hl : lv_has ls 3 [(0, .ref (ad 0)), (1, .int a1), (2, .int a2)] := hl
  refine lv_aload_n hx hb dX7_cost_0 rfl (lv_at hl 0 rfl) ?_
  refine mg_now X P dX7_cost_1 ?_
  refine lv_iload_n hx hb dX7_cost_4 rfl (lv_at hl 2 rfl) ?_
  refine m_iald X P 40 rfl (by decide) hw.1 dX7_cost_5 ?_
  replace hw := hw.2
  refine lv_bipush (v := 48) hx hb dX7_cost_6 (by decide) ?_
  refine lv_icmp_ne (tgt := 23) hx hb dX7_cost_8 (by decide) (fun c_1 => ?_) (fun c_1 => ?_)
  · replace hw := hw.1 c_1
    refine lv_aload_n hx hb dX7_cost_23 rfl (lv_at hl 0 rfl) ?_
    refine mg_passed X P dX7_cost_24 ?_
    refine lv_iload_n hx hb dX7_cost_27 rfl (lv_at hl 2 rfl) ?_
    refine m_iald X P 42 rfl (by decide) hw.1 dX7_cost_28 ?_
    replace hw := hw.2
    refine lv_iconst (v := (-1)) hx hb dX7_cost_29 (by decide) ?_
    refine lv_icmp_ne (tgt := 37) hx hb dX7_cost_30 (by decide) (fun c_2 => ?_) (fun c_2 => ?_)
    · replace hw := hw.1 c_2
      refine lv_aload_n hx hb dX7_cost_37 rfl (lv_at hl 0 rfl) ?_
      refine lv_iload_n hx hb dX7_cost_38 rfl (lv_at hl 1 rfl) ?_
      refine lv_iload_n hx hb dX7_cost_39 rfl (lv_at hl 2 rfl) ?_
      refine cwm_names X P hw ⟨Nat.le_of_ble_eq_true rfl, Nat.le_of_ble_eq_true rfl⟩ hl.1 (Nat.le_of_ble_eq_true rfl) dX7_cost_40 (fun F_4 Ar_5 H locs hw P => ?_)
      refine lv_aload_n hx hb dX7_cost_43 rfl (lv_at hl 0 rfl) ?_
      refine lv_iconst (v := 0) hx hb dX7_cost_44 (by decide) ?_
      refine cwm_worth X P hw ⟨Nat.le_of_ble_eq_true rfl, Nat.le_of_ble_eq_true rfl⟩ hl.1 (Nat.le_of_ble_eq_true rfl) dX7_cost_45 (fun r_6 F_7 Ar_8 H locs hw P => ?_)
      refine cwm_held S hw ⟨Nat.le_of_ble_eq_true rfl, Nat.le_of_ble_eq_true rfl⟩ hl.1 (Nat.le_of_ble_eq_true rfl) dX7_cost_48 (fun r_9 hw => ?_)
      refine lv_aload_n hx hb dX7_cost_51 rfl (lv_at hl 0 rfl) ?_
      refine mg_kind X P dX7_cost_52 ?_
      refine lv_iload_n hx hb dX7_cost_55 rfl (lv_at hl 1 rfl) ?_
      refine m_iald X P 9 rfl (by decide) hw.1 dX7_cost_56 ?_
      replace hw := hw.2
      refine lv_iconst (v := 4) hx hb dX7_cost_57 (by decide) ?_
      refine lv_icmp_ne (tgt := 82) hx hb dX7_cost_58 (by decide) (fun c_10 => ?_) (fun c_10 => ?_)
      · replace hw := hw.1 c_10
        exact kwm_cost_J82 X hr _ P (lv_sub hl [0] rfl) hw
      · replace hw := hw.2 c_10
        refine lv_aload_n hx hb dX7_cost_61 rfl (lv_at hl 0 rfl) ?_
        refine mg_passed X P dX7_cost_62 ?_
        refine lv_iload_n hx hb dX7_cost_65 rfl (lv_at hl 2 rfl) ?_
        refine m_iald X P 42 rfl (by decide) hw.1 dX7_cost_66 ?_
        replace hw := hw.2
        refine lv_aload_n hx hb dX7_cost_67 rfl (lv_at hl 0 rfl) ?_
        refine mg_came X P dX7_cost_68 ?_
        refine lv_iload_n hx hb dX7_cost_71 rfl (lv_at hl 2 rfl) ?_
        refine m_iald X P 41 rfl (by decide) hw.1 dX7_cost_72 ?_
        replace hw := hw.2
        refine lv_isub hx hb dX7_cost_73 ?_
        refine lv_iconst (v := 4) hx hb dX7_cost_74 (by decide) ?_
        refine lv_icmp_le (tgt := 82) hx hb dX7_cost_75 (by decide) (fun c_13 => ?_) (fun c_13 => ?_)
        · replace hw := hw.1 c_13
          exact kwm_cost_J82 X hr _ P (lv_sub hl [0] rfl) hw
        · replace hw := hw.2 c_13
          refine lv_iconst (v := 2) hx hb dX7_cost_78 (by decide) ?_
          refine lv_goto (tgt := 83) hx hb dX7_cost_79 (by decide) ?_
          exact kwm_cost_J83 X hr _ _ P (lv_sub hl [0] rfl) hw
    · replace hw := hw.2 c_2
      refine lv_sipush (v := 5000) hx hb dX7_cost_33 (by decide) ?_
      exact m_iret X P hr hw dX7_cost_36
  · replace hw := hw.2 c_1
    refine lv_aload_n hx hb dX7_cost_11 rfl (lv_at hl 0 rfl) ?_
    refine mg_stays X P dX7_cost_12 ?_
    refine lv_aload_n hx hb dX7_cost_15 rfl (lv_at hl 0 rfl) ?_
    refine mg_sortOf X P dX7_cost_16 ?_
    refine lv_iload_n hx hb dX7_cost_19 rfl (lv_at hl 2 rfl) ?_
    refine m_iald X P 7 rfl (by decide) hw.1 dX7_cost_20 ?_
    replace hw := hw.2
    refine m_iald X P 4 rfl (by decide) hw.1 dX7_cost_21 ?_
    replace hw := hw.2
    exact m_iret X P hr hw dX7_cost_22
theorem cwm_cost {Q : Int32 → tF → tA → Prop} {a1 : Int32} {a2 : Int32} {Z : State → Prop} {H : Heap} {locs : List Loc} {F : tF} {Ar : tA} (X : mCx p s m args meth c cc nL D cl ci dA dL) (P : mP D cl (mReg ad) ci dA dL ad s.heap F Ar H locs) (hw : wm_cost F Ar a1 a2 Q) (hR : 2 + 1 ≤ R.frames ∧ 8 + (3 + 11) + 46 ≤ R.locals) (hls : ls.size = nL) (hst : (rest.map fun v => v.category).sum ≤ 8) (hdg : decode cc pc = .ok (.invokevirtual 248, 3)) (kk : ∀ (r : Int32) (F1 : tF) (A1 : tA) (H1 : Heap) (locs1 : List Loc), Q r F1 A1 → mP D cl (mReg ad) ci dA dL ad s.heap F1 A1 H1 locs1 → W p l e R s m args below meth c H1 locs1 0 0 Z (F0 m (pc + 3) ls (.int r :: rest))) : W p l e R s m args below meth c H locs 0 0 Z (F0 m pc ls (.int a2 :: .int a1 :: .ref (ad 0) :: rest)) := by
  obtain ⟨hx, hb, hml, hown, hts, hK, hc, hlk⟩ := X
  exact va_calli (m_runV (as := [.int a1, .int a2]) hx hb hml hown hts hK hc P.1 P.2.1 (twm_cost l D cl ci dA dL ad F Ar a1 a2 Q hw) (cwV 2 hts (lw_V q1618 q1620 qs51 q88 q1621) rfl rfl rfl (by decide +kernel) hR) rfl hls hst hdg ⟨Nat.zero_le _, Nat.zero_le _⟩) P.2.2 (fun q _ h => h) (fun q h => h) (fun r u t H1 locs1 ht hvm hp hB _ _ hS => kk r u.1 u.2 H1 locs1 hp ⟨by rw [← ht]; exact hB, P.2.1.to (fun k h => mM_dom.mpr (mM_dom.mp h)), hS⟩)
-- orderOf
def wm_orderOf (F : tF) (Ar : tA) (a1 : Int32) (a2 : Int32) (Q : Int32 → Prop) : Prop :=
  ((a1 = 2 → Q a2) ∧ (¬ a1 = 2 → ((a1 = 3 → Q (((5 * a2) + 3) - ((5 * a2) + 3) / 17 * 17)) ∧ (¬ a1 = 3 → ((a1 = 4 → vp_in a2 16 ∧ Q (-(Ar 41 a2.toNatClampNeg))) ∧ (¬ a1 = 4 → ((a1 = 5 → vp_in a2 16 ∧ vp_in a2 16 ∧ Q ((Ar 41 a2.toNatClampNeg) - (3 * (Ar 7 a2.toNatClampNeg)))) ∧ (¬ a1 = 5 → vp_in a2 16 ∧ Q (Ar 41 a2.toNatClampNeg)))))))))
set_option maxHeartbeats 4000000 in
theorem twm_orderOf (l : Launch) (D : va_G) (cl : List vw_C) (ci : Nat) (dA dL : ClassId) (ad : Nat → Nat) (F : tF) (Ar : tA) (a1 : Int32) (a2 : Int32) (Q : Int32 → Prop) (hw : wm_orderOf F Ar a1 a2 Q) : Met l yX7_orderOf (ws_ yX7_orderOf cX7_orderOf 3 (some .int)) ({ frames := 0, cells := 0, slots := 0, locals := 0 }) (mPc D cl ci dA dL ad F Ar [.int a1, .int a2]) (vp_Si Q) 0 0 (fun _ => False) := by
  refine m_entry (by decide) rfl (Nat.le_of_ble_eq_true rfl) ?_
  intro p e s m below meth c ls X hr P hl
  obtain ⟨hx, hb, hml, hown, hts, -, -, hlk⟩ := id X
  have S : CallFix p m c _ _ s _ lw_all RX7 := ⟨hx, hb, hml, hown, hts⟩
  have hl : lv_has ls 3 [(0, .ref (ad 0)), (1, .int a1), (2, .int a2)] := hl
  refine lv_iload_n hx hb dX7_orderOf_0 rfl (lv_at hl 1 rfl) ?_
  by_cases c_1 : a1 = 2
  · replace hw := hw.1 c_1
    refine ts_in (off := 31) (tgt := 32) hx hb dX7_orderOf_1 2 c_1 (by decide) (by decide) ?_
    refine lv_iload_n hx hb dX7_orderOf_32 rfl (lv_at hl 2 rfl) ?_
    exact r_iret hx hb hlk hr hw dX7_orderOf_33
  · replace hw := hw.2 c_1
    by_cases c_2 : a1 = 3
    · replace hw := hw.1 c_2
      refine ts_in (off := 33) (tgt := 34) hx hb dX7_orderOf_1 3 c_2 (by decide) (by decide) ?_
      refine lv_iconst (v := 5) hx hb dX7_orderOf_34 (by decide) ?_
      refine lv_iload_n hx hb dX7_orderOf_35 rfl (lv_at hl 2 rfl) ?_
      refine lv_imul hx hb dX7_orderOf_36 ?_
      refine lv_iconst (v := 3) hx hb dX7_orderOf_37 (by decide) ?_
      refine lv_iadd hx hb dX7_orderOf_38 ?_
      refine lv_bipush (v := 17) hx hb dX7_orderOf_39 (by decide) ?_
      refine lv_irem hx hb dX7_orderOf_41 (by decide) ?_
      exact r_iret hx hb hlk hr hw dX7_orderOf_42
    · replace hw := hw.2 c_2
      by_cases c_3 : a1 = 4
      · replace hw := hw.1 c_3
        refine ts_in (off := 42) (tgt := 43) hx hb dX7_orderOf_1 4 c_3 (by decide) (by decide) ?_
        refine lv_aload_n hx hb dX7_orderOf_43 rfl (lv_at hl 0 rfl) ?_
        refine mg_came X P dX7_orderOf_44 ?_
        refine lv_iload_n hx hb dX7_orderOf_47 rfl (lv_at hl 2 rfl) ?_
        refine m_iald X P 41 rfl (by decide) hw.1 dX7_orderOf_48 ?_
        replace hw := hw.2
        refine lv_ineg hx hb dX7_orderOf_49 ?_
        exact r_iret hx hb hlk hr hw dX7_orderOf_50
      · replace hw := hw.2 c_3
        by_cases c_4 : a1 = 5
        · replace hw := hw.1 c_4
          refine ts_in (off := 50) (tgt := 51) hx hb dX7_orderOf_1 5 c_4 (by decide) (by decide) ?_
          refine lv_aload_n hx hb dX7_orderOf_51 rfl (lv_at hl 0 rfl) ?_
          refine mg_came X P dX7_orderOf_52 ?_
          refine lv_iload_n hx hb dX7_orderOf_55 rfl (lv_at hl 2 rfl) ?_
          refine m_iald X P 41 rfl (by decide) hw.1 dX7_orderOf_56 ?_
          replace hw := hw.2
          refine lv_iconst (v := 3) hx hb dX7_orderOf_57 (by decide) ?_
          refine lv_aload_n hx hb dX7_orderOf_58 rfl (lv_at hl 0 rfl) ?_
          refine mg_sortOf X P dX7_orderOf_59 ?_
          refine lv_iload_n hx hb dX7_orderOf_62 rfl (lv_at hl 2 rfl) ?_
          refine m_iald X P 7 rfl (by decide) hw.1 dX7_orderOf_63 ?_
          replace hw := hw.2
          refine lv_imul hx hb dX7_orderOf_64 ?_
          refine lv_isub hx hb dX7_orderOf_65 ?_
          exact r_iret hx hb hlk hr hw dX7_orderOf_66
        · replace hw := hw.2 c_4
          refine lv_tableOut (tgt := 67) hx hb dX7_orderOf_1 (by have z0 : a1.toInt ≠ 2 := i32_ne c_1; have z1 : a1.toInt ≠ 3 := i32_ne c_2; have z2 : a1.toInt ≠ 4 := i32_ne c_3; have z3 : a1.toInt ≠ 5 := i32_ne c_4; omega) (by decide) ?_
          refine lv_aload_n hx hb dX7_orderOf_67 rfl (lv_at hl 0 rfl) ?_
          refine mg_came X P dX7_orderOf_68 ?_
          refine lv_iload_n hx hb dX7_orderOf_71 rfl (lv_at hl 2 rfl) ?_
          refine m_iald X P 41 rfl (by decide) hw.1 dX7_orderOf_72 ?_
          replace hw := hw.2
          exact r_iret hx hb hlk hr hw dX7_orderOf_73
theorem cwm_orderOf {Q : Int32 → Prop} {a1 : Int32} {a2 : Int32} {Z : State → Prop} {H : Heap} {locs : List Loc} {F : tF} {Ar : tA} (X : mCx p s m args meth c cc nL D cl ci dA dL) (P : mP D cl (mReg ad) ci dA dL ad s.heap F Ar H locs) (hw : wm_orderOf F Ar a1 a2 Q) (hR : 0 + 1 ≤ R.frames ∧ 8 + (3 + 11) + 0 ≤ R.locals) (hls : ls.size = nL) (hst : (rest.map fun v => v.category).sum ≤ 8) (hdg : decode cc pc = .ok (.invokevirtual 226, 3)) (kk : ∀ r, Q r → W p l e R s m args below meth c H locs 0 0 Z (F0 m (pc + 3) ls (.int r :: rest))) : W p l e R s m args below meth c H locs 0 0 Z (F0 m pc ls (.int a2 :: .int a1 :: .ref (ad 0) :: rest)) := by
  obtain ⟨hx, hb, hml, hown, hts, hK, hc, hlk⟩ := X
  exact vp_callSi (m_runR (as := [.int a1, .int a2]) hx hb hml hown hts hK hc P.1 P.2.1 (twm_orderOf l D cl ci dA dL ad F Ar a1 a2 Q hw) (cwV 2 hts (lw_V q1614 q1616 qs50 q88 q1617) rfl rfl rfl (by decide +kernel) hR) rfl hls hst hdg ⟨Nat.zero_le _, Nat.zero_le _⟩) kk
-- nextAt
def wm_nextAt_J134 (F : tF) (Ar : tA) (y1_7 : Int32) (y2_7 : Int32) (y3_7 : Int32) (y4_7 : Int32) (y5_7 : Int32) (Kh6_1 : Int32 → Int32 → Prop) (Q : Int32 → Prop) : Prop :=
  (Kh6_1 y4_7 (y5_7 + 1))
set_option maxHeartbeats 4000000 in
theorem kwm_nextAt_J134 {Q : Int32 → Prop} (X : mCx p s m args meth c cX7_nextAt 7 D cl ci dA dL) (hr : meth.sig.returnType = (some .int)) {F : tF} {Ar : tA} (y1_7 : Int32) (y2_7 : Int32) (y3_7 : Int32) (y4_7 : Int32) (y5_7 : Int32) (Kh6_1 : Int32 → Int32 → Prop) {ls : Array Slot} (P : mP D cl (mReg ad) ci dA dL ad s.heap F Ar s.heap []) (hl : lv_has ls 7 [(0, .ref (ad 0)), (1, .int y1_7), (2, .int y2_7), (3, .int y3_7), (4, .int y4_7), (5, .int y5_7)]) (hw : wm_nextAt_J134 F Ar y1_7 y2_7 y3_7 y4_7 y5_7 Kh6_1 Q) (hKh6_1 : ∀ (w4_ : Int32) (w5_ : Int32) (ls : Array Slot), lv_has ls 7 [(0, .ref (ad 0)), (1, .int y1_7), (2, .int y2_7), (3, .int y3_7), (4, .int w4_), (5, .int w5_)] → Kh6_1 w4_ w5_ → W p l e ({ frames := 1, cells := 0, slots := 0, locals := 22 }) s m args below meth c s.heap [] 0 0 (MQ below (vp_Si Q) args s 0 0 (fun _ => False)) (F0 m 6 ls [])) : W p l e ({ frames := 1, cells := 0, slots := 0, locals := 22 }) s m args below meth c s.heap [] 0 0 (MQ below (vp_Si Q) args s 0 0 (fun _ => False)) (F0 m 134 ls []) := by
  obtain ⟨hx, hb, hml, hown, hts, -, -, hlk⟩ := id X
  have S : CallFix p m c _ _ s args lw_all RX7 := ⟨hx, hb, hml, hown, hts⟩
  refine lv_iinc (v := (y5_7 + 1)) (lv' := [(5, .int (y5_7 + 1)), (0, .ref (ad 0)), (1, .int y1_7), (2, .int y2_7), (3, .int y3_7), (4, .int y4_7)]) hx hb dX7_nextAt_134 hl (k := 5) rfl rfl (by decide) rfl (fun ls hl => ?_)
  refine lv_goto (tgt := 6) hx hb dX7_nextAt_137 (by decide) ?_
  exact hKh6_1 _ _ _ (lv_sub hl [1, 2, 3, 4, 5, 0] rfl) hw
def wm_nextAt_J130 (F : tF) (Ar : tA) (y1_9 : Int32) (y2_9 : Int32) (y3_9 : Int32) (y5_9 : Int32) (Kh6_1 : Int32 → Int32 → Prop) (Q : Int32 → Prop) : Prop :=
  (wm_nextAt_J134 F Ar y1_9 y2_9 y3_9 y5_9 y5_9 Kh6_1 Q)
set_option maxHeartbeats 4000000 in
theorem kwm_nextAt_J130 {Q : Int32 → Prop} (X : mCx p s m args meth c cX7_nextAt 7 D cl ci dA dL) (hr : meth.sig.returnType = (some .int)) {F : tF} {Ar : tA} (y1_9 : Int32) (y2_9 : Int32) (y3_9 : Int32) (y5_9 : Int32) (Kh6_1 : Int32 → Int32 → Prop) {ls : Array Slot} (P : mP D cl (mReg ad) ci dA dL ad s.heap F Ar s.heap []) (hl : lv_has ls 7 [(0, .ref (ad 0)), (1, .int y1_9), (2, .int y2_9), (3, .int y3_9), (5, .int y5_9)]) (hw : wm_nextAt_J130 F Ar y1_9 y2_9 y3_9 y5_9 Kh6_1 Q) (hKh6_1 : ∀ (w4_ : Int32) (w5_ : Int32) (ls : Array Slot), lv_has ls 7 [(0, .ref (ad 0)), (1, .int y1_9), (2, .int y2_9), (3, .int y3_9), (4, .int w4_), (5, .int w5_)] → Kh6_1 w4_ w5_ → W p l e ({ frames := 1, cells := 0, slots := 0, locals := 22 }) s m args below meth c s.heap [] 0 0 (MQ below (vp_Si Q) args s 0 0 (fun _ => False)) (F0 m 6 ls [])) : W p l e ({ frames := 1, cells := 0, slots := 0, locals := 22 }) s m args below meth c s.heap [] 0 0 (MQ below (vp_Si Q) args s 0 0 (fun _ => False)) (F0 m 130 ls []) := by
  obtain ⟨hx, hb, hml, hown, hts, -, -, hlk⟩ := id X
  have S : CallFix p m c _ _ s args lw_all RX7 := ⟨hx, hb, hml, hown, hts⟩
  refine lv_iload hx hb dX7_nextAt_130 (lv_at hl 4 rfl) ?_
  refine lv_istore (lv' := [(4, .int y5_9), (0, .ref (ad 0)), (1, .int y1_9), (2, .int y2_9), (3, .int y3_9), (5, .int y5_9)]) hx hb dX7_nextAt_132 hl (by decide) rfl (fun ls hl => ?_)
  exact kwm_nextAt_J134 X hr _ _ _ _ _ _ P (lv_sub hl [1, 2, 3, 4, 0, 5] rfl) hw hKh6_1
def wm_nextAt_J124 (F : tF) (Ar : tA) (y1_12 : Int32) (y2_12 : Int32) (y3_12 : Int32) (y4_12 : Int32) (y5_12 : Int32) (z0_12 : Int32) (z1_12 : Int32) (z3_12 : Int32) (Kh6_1 : Int32 → Int32 → Prop) (Q : Int32 → Prop) : Prop :=
  wm_orderOf F Ar z1_12 z0_12 (fun r_13 => ((r_13 ≤ z3_12 → (wm_nextAt_J134 F Ar y1_12 y2_12 y3_12 y4_12 y5_12 Kh6_1 Q)) ∧ (¬ r_13 ≤ z3_12 → (wm_nextAt_J130 F Ar y1_12 y2_12 y3_12 y5_12 Kh6_1 Q))))
set_option maxHeartbeats 4000000 in
theorem kwm_nextAt_J124 {Q : Int32 → Prop} (X : mCx p s m args meth c cX7_nextAt 7 D cl ci dA dL) (hr : meth.sig.returnType = (some .int)) {F : tF} {Ar : tA} (y1_12 : Int32) (y2_12 : Int32) (y3_12 : Int32) (y4_12 : Int32) (y5_12 : Int32) (z0_12 : Int32) (z1_12 : Int32) (z3_12 : Int32) (Kh6_1 : Int32 → Int32 → Prop) {ls : Array Slot} (P : mP D cl (mReg ad) ci dA dL ad s.heap F Ar s.heap []) (hl : lv_has ls 7 [(0, .ref (ad 0)), (1, .int y1_12), (2, .int y2_12), (3, .int y3_12), (4, .int y4_12), (5, .int y5_12)]) (hw : wm_nextAt_J124 F Ar y1_12 y2_12 y3_12 y4_12 y5_12 z0_12 z1_12 z3_12 Kh6_1 Q) (hKh6_1 : ∀ (w4_ : Int32) (w5_ : Int32) (ls : Array Slot), lv_has ls 7 [(0, .ref (ad 0)), (1, .int y1_12), (2, .int y2_12), (3, .int y3_12), (4, .int w4_), (5, .int w5_)] → Kh6_1 w4_ w5_ → W p l e ({ frames := 1, cells := 0, slots := 0, locals := 22 }) s m args below meth c s.heap [] 0 0 (MQ below (vp_Si Q) args s 0 0 (fun _ => False)) (F0 m 6 ls [])) : W p l e ({ frames := 1, cells := 0, slots := 0, locals := 22 }) s m args below meth c s.heap [] 0 0 (MQ below (vp_Si Q) args s 0 0 (fun _ => False)) (F0 m 124 ls [.int z0_12, .int z1_12, .ref (ad 0), .int z3_12]) := by
  obtain ⟨hx, hb, hml, hown, hts, -, -, hlk⟩ := id X
  have S : CallFix p m c _ _ s args lw_all RX7 := ⟨hx, hb, hml, hown, hts⟩
  refine cwm_orderOf X P hw ⟨Nat.le_of_ble_eq_true rfl, Nat.le_of_ble_eq_true rfl⟩ hl.1 (Nat.le_of_ble_eq_true rfl) dX7_nextAt_124 (fun r_13 hw => ?_)
  refine lv_icmp_ge (tgt := 134) hx hb dX7_nextAt_127 (by decide) (fun c_14 => ?_) (fun c_14 => ?_)
  · replace hw := hw.1 c_14
    exact kwm_nextAt_J134 X hr _ _ _ _ _ _ P (lv_sub hl [0, 1, 2, 3, 4, 5] rfl) hw hKh6_1
  · replace hw := hw.2 c_14
    exact kwm_nextAt_J130 X hr _ _ _ _ _ P (lv_sub hl [0, 1, 2, 3, 5] rfl) hw hKh6_1
def wm_nextAt_J81 (F : tF) (Ar : tA) (y1_5 : Int32) (y2_5 : Int32) (y3_5 : Int32) (y4_5 : Int32) (y5_5 : Int32) (z0_5 : Int32) (Kh6_1 : Int32 → Int32 → Prop) (Q : Int32 → Prop) : Prop :=
  ((z0_5 = 0 → (wm_nextAt_J134 F Ar y1_5 y2_5 y3_5 y4_5 y5_5 Kh6_1 Q)) ∧ (¬ z0_5 = 0 → ((y4_5 = (-1) → (wm_nextAt_J130 F Ar y1_5 y2_5 y3_5 y5_5 Kh6_1 Q)) ∧ (¬ y4_5 = (-1) → vp_in y1_5 8 ∧ wm_orderOf F Ar (Ar 9 y1_5.toNatClampNeg) y5_5 (fun r_10 => vp_in y1_5 8 ∧ (((0 : Int32) ≤ y4_5 → (wm_nextAt_J124 F Ar y1_5 y2_5 y3_5 y4_5 y5_5 y4_5 (Ar 9 y1_5.toNatClampNeg) r_10 Kh6_1 Q)) ∧ (¬ (0 : Int32) ≤ y4_5 → (wm_nextAt_J124 F Ar y1_5 y2_5 y3_5 y4_5 y5_5 0 (Ar 9 y1_5.toNatClampNeg) r_10 Kh6_1 Q))))))))
set_option maxHeartbeats 4000000 in
theorem kwm_nextAt_J81 {Q : Int32 → Prop} (X : mCx p s m args meth c cX7_nextAt 7 D cl ci dA dL) (hr : meth.sig.returnType = (some .int)) {F : tF} {Ar : tA} (y1_5 : Int32) (y2_5 : Int32) (y3_5 : Int32) (y4_5 : Int32) (y5_5 : Int32) (z0_5 : Int32) (Kh6_1 : Int32 → Int32 → Prop) {ls : Array Slot} (P : mP D cl (mReg ad) ci dA dL ad s.heap F Ar s.heap []) (hl : lv_has ls 7 [(0, .ref (ad 0)), (1, .int y1_5), (2, .int y2_5), (3, .int y3_5), (4, .int y4_5), (5, .int y5_5)]) (hw : wm_nextAt_J81 F Ar y1_5 y2_5 y3_5 y4_5 y5_5 z0_5 Kh6_1 Q) (hKh6_1 : ∀ (w4_ : Int32) (w5_ : Int32) (ls : Array Slot), lv_has ls 7 [(0, .ref (ad 0)), (1, .int y1_5), (2, .int y2_5), (3, .int y3_5), (4, .int w4_), (5, .int w5_)] → Kh6_1 w4_ w5_ → W p l e ({ frames := 1, cells := 0, slots := 0, locals := 22 }) s m args below meth c s.heap [] 0 0 (MQ below (vp_Si Q) args s 0 0 (fun _ => False)) (F0 m 6 ls [])) : W p l e ({ frames := 1, cells := 0, slots := 0, locals := 22 }) s m args below meth c s.heap [] 0 0 (MQ below (vp_Si Q) args s 0 0 (fun _ => False)) (F0 m 81 ls [.int z0_5]) := by
  obtain ⟨hx, hb, hml, hown, hts, -, -, hlk⟩ := id X
  have S : CallFix p m c _ _ s args lw_all RX7 := ⟨hx, hb, hml, hown, hts⟩
  refine lv_istore (lv' := [(6, .int z0_5), (0, .ref (ad 0)), (1, .int y1_5), (2, .int y2_5), (3, .int y3_5), (4, .int y4_5), (5, .int y5_5)]) hx hb dX7_nextAt_81 hl (by decide) rfl (fun ls hl => ?_)
  refine lv_iload hx hb dX7_nextAt_83 (lv_at hl 0 rfl) ?_
  refine lv_if_eq (tgt := 134) hx hb dX7_nextAt_85 (by decide) (fun c_6 => ?_) (fun c_6 => ?_)
  · replace hw := hw.1 c_6
    exact kwm_nextAt_J134 X hr _ _ _ _ _ _ P (lv_sub hl [1, 2, 3, 4, 5, 6] rfl) hw hKh6_1
  · replace hw := hw.2 c_6
    refine lv_iload hx hb dX7_nextAt_88 (lv_at hl 5 rfl) ?_
    refine lv_iconst (v := (-1)) hx hb dX7_nextAt_90 (by decide) ?_
    refine lv_icmp_eq (tgt := 130) hx hb dX7_nextAt_91 (by decide) (fun c_8 => ?_) (fun c_8 => ?_)
    · replace hw := hw.1 c_8
      exact kwm_nextAt_J130 X hr _ _ _ _ _ P (lv_sub hl [1, 2, 3, 4, 6] rfl) hw hKh6_1
    · replace hw := hw.2 c_8
      refine lv_aload_n hx hb dX7_nextAt_94 rfl (lv_at hl 1 rfl) ?_
      refine lv_aload_n hx hb dX7_nextAt_95 rfl (lv_at hl 1 rfl) ?_
      refine mg_kind X P dX7_nextAt_96 ?_
      refine lv_iload_n hx hb dX7_nextAt_99 rfl (lv_at hl 2 rfl) ?_
      refine m_iald X P 9 rfl (by decide) hw.1 dX7_nextAt_100 ?_
      replace hw := hw.2
      refine lv_iload hx hb dX7_nextAt_101 (lv_at hl 6 rfl) ?_
      refine cwm_orderOf X P hw ⟨Nat.le_of_ble_eq_true rfl, Nat.le_of_ble_eq_true rfl⟩ hl.1 (Nat.le_of_ble_eq_true rfl) dX7_nextAt_103 (fun r_10 hw => ?_)
      refine lv_aload_n hx hb dX7_nextAt_106 rfl (lv_at hl 1 rfl) ?_
      refine lv_aload_n hx hb dX7_nextAt_107 rfl (lv_at hl 1 rfl) ?_
      refine mg_kind X P dX7_nextAt_108 ?_
      refine lv_iload_n hx hb dX7_nextAt_111 rfl (lv_at hl 2 rfl) ?_
      refine m_iald X P 9 rfl (by decide) hw.1 dX7_nextAt_112 ?_
      replace hw := hw.2
      refine lv_iload hx hb dX7_nextAt_113 (lv_at hl 5 rfl) ?_
      refine lv_if_ge (tgt := 122) hx hb dX7_nextAt_115 (by decide) (fun c_11 => ?_) (fun c_11 => ?_)
      · replace hw := hw.1 c_11
        refine lv_iload hx hb dX7_nextAt_122 (lv_at hl 5 rfl) ?_
        exact kwm_nextAt_J124 X hr _ _ _ _ _ _ _ _ _ P (lv_sub hl [1, 2, 3, 4, 5, 6] rfl) hw hKh6_1
      · replace hw := hw.2 c_11
        refine lv_iconst (v := 0) hx hb dX7_nextAt_118 (by decide) ?_
        refine lv_goto (tgt := 124) hx hb dX7_nextAt_119 (by decide) ?_
        exact kwm_nextAt_J124 X hr _ _ _ _ _ _ _ _ _ P (lv_sub hl [1, 2, 3, 4, 5, 6] rfl) hw hKh6_1
def wm_nextAt_J80 (F : tF) (Ar : tA) (y1_4 : Int32) (y2_4 : Int32) (y3_4 : Int32) (y4_4 : Int32) (y5_4 : Int32) (Kh6_1 : Int32 → Int32 → Prop) (Q : Int32 → Prop) : Prop :=
  (wm_nextAt_J81 F Ar y1_4 y2_4 y3_4 y4_4 y5_4 0 Kh6_1 Q)
set_option maxHeartbeats 4000000 in
theorem kwm_nextAt_J80 {Q : Int32 → Prop} (X : mCx p s m args meth c cX7_nextAt 7 D cl ci dA dL) (hr : meth.sig.returnType = (some .int)) {F : tF} {Ar : tA} (y1_4 : Int32) (y2_4 : Int32) (y3_4 : Int32) (y4_4 : Int32) (y5_4 : Int32) (Kh6_1 : Int32 → Int32 → Prop) {ls : Array Slot} (P : mP D cl (mReg ad) ci dA dL ad s.heap F Ar s.heap []) (hl : lv_has ls 7 [(0, .ref (ad 0)), (1, .int y1_4), (2, .int y2_4), (3, .int y3_4), (4, .int y4_4), (5, .int y5_4)]) (hw : wm_nextAt_J80 F Ar y1_4 y2_4 y3_4 y4_4 y5_4 Kh6_1 Q) (hKh6_1 : ∀ (w4_ : Int32) (w5_ : Int32) (ls : Array Slot), lv_has ls 7 [(0, .ref (ad 0)), (1, .int y1_4), (2, .int y2_4), (3, .int y3_4), (4, .int w4_), (5, .int w5_)] → Kh6_1 w4_ w5_ → W p l e ({ frames := 1, cells := 0, slots := 0, locals := 22 }) s m args below meth c s.heap [] 0 0 (MQ below (vp_Si Q) args s 0 0 (fun _ => False)) (F0 m 6 ls [])) : W p l e ({ frames := 1, cells := 0, slots := 0, locals := 22 }) s m args below meth c s.heap [] 0 0 (MQ below (vp_Si Q) args s 0 0 (fun _ => False)) (F0 m 80 ls []) := by
  obtain ⟨hx, hb, hml, hown, hts, -, -, hlk⟩ := id X
  have S : CallFix p m c _ _ s args lw_all RX7 := ⟨hx, hb, hml, hown, hts⟩
  refine lv_iconst (v := 0) hx hb dX7_nextAt_80 (by decide) ?_
  exact kwm_nextAt_J81 X hr _ _ _ _ _ _ _ P (lv_sub hl [0, 1, 2, 3, 4, 5] rfl) hw hKh6_1
def wm_nextAt_L6 (F : tF) (Ar : tA) (y1_1 : Int32) (y2_1 : Int32) (y3_1 : Int32) (Q : Int32 → Prop) : Nat → Int32 → Int32 → Prop
  | 0, _, _ => False
  | f6 + 1, y4_1, y5_1 =>
    vp_in y1_1 8 ∧ (((Ar 10 y1_1.toNatClampNeg) ≤ y5_1 → Q y4_1) ∧ (¬ (Ar 10 y1_1.toNatClampNeg) ≤ y5_1 → vp_in y5_1 16 ∧ (((Ar 40 y5_1.toNatClampNeg) = 48 → (wm_nextAt_J80 F Ar y1_1 y2_1 y3_1 y4_1 y5_1 (wm_nextAt_L6 F Ar y1_1 y2_1 y3_1 Q f6) Q)) ∧ (¬ (Ar 40 y5_1.toNatClampNeg) = 48 → vp_in y5_1 16 ∧ ((¬ ((Ar 40 y5_1.toNatClampNeg) / 24) = y2_1 → (wm_nextAt_J80 F Ar y1_1 y2_1 y3_1 y4_1 y5_1 (wm_nextAt_L6 F Ar y1_1 y2_1 y3_1 Q f6) Q)) ∧ (((Ar 40 y5_1.toNatClampNeg) / 24) = y2_1 → vp_in y5_1 16 ∧ (((Ar 41 y5_1.toNatClampNeg) = (-1) → (wm_nextAt_J80 F Ar y1_1 y2_1 y3_1 y4_1 y5_1 (wm_nextAt_L6 F Ar y1_1 y2_1 y3_1 Q f6) Q)) ∧ (¬ (Ar 41 y5_1.toNatClampNeg) = (-1) → vp_in y5_1 16 ∧ ((y3_1 < (Ar 41 y5_1.toNatClampNeg) → (wm_nextAt_J80 F Ar y1_1 y2_1 y3_1 y4_1 y5_1 (wm_nextAt_L6 F Ar y1_1 y2_1 y3_1 Q f6) Q)) ∧ (¬ y3_1 < (Ar 41 y5_1.toNatClampNeg) → vp_in y5_1 16 ∧ ((¬ (Ar 42 y5_1.toNatClampNeg) = (-1) → (wm_nextAt_J80 F Ar y1_1 y2_1 y3_1 y4_1 y5_1 (wm_nextAt_L6 F Ar y1_1 y2_1 y3_1 Q f6) Q)) ∧ ((Ar 42 y5_1.toNatClampNeg) = (-1) → (wm_nextAt_J81 F Ar y1_1 y2_1 y3_1 y4_1 y5_1 1 (wm_nextAt_L6 F Ar y1_1 y2_1 y3_1 Q f6) Q)))))))))))))
set_option maxHeartbeats 4000000 in
theorem kwm_nextAt_L6 {Q : Int32 → Prop} (X : mCx p s m args meth c cX7_nextAt 7 D cl ci dA dL) (hr : meth.sig.returnType = (some .int)) (F : tF) (Ar : tA) (y1_1 : Int32) (y2_1 : Int32) (y3_1 : Int32) (P : mP D cl (mReg ad) ci dA dL ad s.heap F Ar s.heap []) : ∀ (n : Nat) (y4_1 : Int32) (y5_1 : Int32) (ls : Array Slot), lv_has ls 7 [(0, .ref (ad 0)), (1, .int y1_1), (2, .int y2_1), (3, .int y3_1), (4, .int y4_1), (5, .int y5_1)] → wm_nextAt_L6 F Ar y1_1 y2_1 y3_1 Q n y4_1 y5_1 → W p l e ({ frames := 1, cells := 0, slots := 0, locals := 22 }) s m args below meth c s.heap [] 0 0 (MQ below (vp_Si Q) args s 0 0 (fun _ => False)) (F0 m 6 ls []) := by
  obtain ⟨hx, hb, hml, hown, hts, -, -, hlk⟩ := id X
  have S : CallFix p m c _ _ s args lw_all RX7 := ⟨hx, hb, hml, hown, hts⟩
  intro n
  induction n with
  | zero =>
    intro y4_1 y5_1 ls hl hw
    exact hw.elim
  | succ n ih =>
    intro y4_1 y5_1 ls hl hw
    have hKh6_1 := ih
    refine lv_iload hx hb dX7_nextAt_6 (lv_at hl 5 rfl) ?_
    refine lv_aload_n hx hb dX7_nextAt_8 rfl (lv_at hl 0 rfl) ?_
    refine mg_many X P dX7_nextAt_9 ?_
    refine lv_iload_n hx hb dX7_nextAt_12 rfl (lv_at hl 1 rfl) ?_
    refine m_iald X P 10 rfl (by decide) hw.1 dX7_nextAt_13 ?_
    replace hw := hw.2
    refine lv_icmp_ge (tgt := 140) hx hb dX7_nextAt_14 (by decide) (fun c_2 => ?_) (fun c_2 => ?_)
    · replace hw := hw.1 c_2
      refine lv_iload hx hb dX7_nextAt_140 (lv_at hl 4 rfl) ?_
      exact r_iret hx hb hlk hr hw dX7_nextAt_142
    · replace hw := hw.2 c_2
      refine lv_aload_n hx hb dX7_nextAt_17 rfl (lv_at hl 0 rfl) ?_
      refine mg_now X P dX7_nextAt_18 ?_
      refine lv_iload hx hb dX7_nextAt_21 (lv_at hl 5 rfl) ?_
      refine m_iald X P 40 rfl (by decide) hw.1 dX7_nextAt_23 ?_
      replace hw := hw.2
      refine lv_bipush (v := 48) hx hb dX7_nextAt_24 (by decide) ?_
      refine lv_icmp_eq (tgt := 80) hx hb dX7_nextAt_26 (by decide) (fun c_3 => ?_) (fun c_3 => ?_)
      · replace hw := hw.1 c_3
        exact kwm_nextAt_J80 X hr _ _ _ _ _ _ P (lv_sub hl [0, 1, 2, 3, 4, 5] rfl) hw hKh6_1
      · replace hw := hw.2 c_3
        refine lv_aload_n hx hb dX7_nextAt_29 rfl (lv_at hl 0 rfl) ?_
        refine mg_now X P dX7_nextAt_30 ?_
        refine lv_iload hx hb dX7_nextAt_33 (lv_at hl 5 rfl) ?_
        refine m_iald X P 40 rfl (by decide) hw.1 dX7_nextAt_35 ?_
        replace hw := hw.2
        refine lv_bipush (v := 24) hx hb dX7_nextAt_36 (by decide) ?_
        refine lv_idiv hx hb dX7_nextAt_38 (by decide) ?_
        refine lv_iload_n hx hb dX7_nextAt_39 rfl (lv_at hl 2 rfl) ?_
        refine lv_icmp_ne (tgt := 80) hx hb dX7_nextAt_40 (by decide) (fun c_15 => ?_) (fun c_15 => ?_)
        · replace hw := hw.1 c_15
          exact kwm_nextAt_J80 X hr _ _ _ _ _ _ P (lv_sub hl [0, 1, 2, 3, 4, 5] rfl) hw hKh6_1
        · replace hw := hw.2 c_15
          refine lv_aload_n hx hb dX7_nextAt_43 rfl (lv_at hl 0 rfl) ?_
          refine mg_came X P dX7_nextAt_44 ?_
          refine lv_iload hx hb dX7_nextAt_47 (lv_at hl 5 rfl) ?_
          refine m_iald X P 41 rfl (by decide) hw.1 dX7_nextAt_49 ?_
          replace hw := hw.2
          refine lv_iconst (v := (-1)) hx hb dX7_nextAt_50 (by decide) ?_
          refine lv_icmp_eq (tgt := 80) hx hb dX7_nextAt_51 (by decide) (fun c_16 => ?_) (fun c_16 => ?_)
          · replace hw := hw.1 c_16
            exact kwm_nextAt_J80 X hr _ _ _ _ _ _ P (lv_sub hl [0, 1, 2, 3, 4, 5] rfl) hw hKh6_1
          · replace hw := hw.2 c_16
            refine lv_aload_n hx hb dX7_nextAt_54 rfl (lv_at hl 0 rfl) ?_
            refine mg_came X P dX7_nextAt_55 ?_
            refine lv_iload hx hb dX7_nextAt_58 (lv_at hl 5 rfl) ?_
            refine m_iald X P 41 rfl (by decide) hw.1 dX7_nextAt_60 ?_
            replace hw := hw.2
            refine lv_iload_n hx hb dX7_nextAt_61 rfl (lv_at hl 3 rfl) ?_
            refine lv_icmp_gt (tgt := 80) hx hb dX7_nextAt_62 (by decide) (fun c_17 => ?_) (fun c_17 => ?_)
            · replace hw := hw.1 c_17
              exact kwm_nextAt_J80 X hr _ _ _ _ _ _ P (lv_sub hl [0, 1, 2, 3, 4, 5] rfl) hw hKh6_1
            · replace hw := hw.2 c_17
              refine lv_aload_n hx hb dX7_nextAt_65 rfl (lv_at hl 0 rfl) ?_
              refine mg_passed X P dX7_nextAt_66 ?_
              refine lv_iload hx hb dX7_nextAt_69 (lv_at hl 5 rfl) ?_
              refine m_iald X P 42 rfl (by decide) hw.1 dX7_nextAt_71 ?_
              replace hw := hw.2
              refine lv_iconst (v := (-1)) hx hb dX7_nextAt_72 (by decide) ?_
              refine lv_icmp_ne (tgt := 80) hx hb dX7_nextAt_73 (by decide) (fun c_18 => ?_) (fun c_18 => ?_)
              · replace hw := hw.1 c_18
                exact kwm_nextAt_J80 X hr _ _ _ _ _ _ P (lv_sub hl [0, 1, 2, 3, 4, 5] rfl) hw hKh6_1
              · replace hw := hw.2 c_18
                refine lv_iconst (v := 1) hx hb dX7_nextAt_76 (by decide) ?_
                refine lv_goto (tgt := 81) hx hb dX7_nextAt_77 (by decide) ?_
                exact kwm_nextAt_J81 X hr _ _ _ _ _ _ _ P (lv_sub hl [0, 1, 2, 3, 4, 5] rfl) hw hKh6_1
def wm_nextAt (F : tF) (Ar : tA) (a1 : Int32) (a2 : Int32) (a3 : Int32) (Q : Int32 → Prop) : Prop :=
  (∃ n6, wm_nextAt_L6 F Ar a1 a2 a3 Q n6 (-1) 0)
set_option maxHeartbeats 4000000 in
theorem twm_nextAt (l : Launch) (D : va_G) (cl : List vw_C) (ci : Nat) (dA dL : ClassId) (ad : Nat → Nat) (F : tF) (Ar : tA) (a1 : Int32) (a2 : Int32) (a3 : Int32) (Q : Int32 → Prop) (hw : wm_nextAt F Ar a1 a2 a3 Q) : Met l yX7_nextAt (ws_ yX7_nextAt cX7_nextAt 7 (some .int)) ({ frames := 1, cells := 0, slots := 0, locals := 22 }) (mPc D cl ci dA dL ad F Ar [.int a1, .int a2, .int a3]) (vp_Si Q) 0 0 (fun _ => False) := by
  refine m_entry (by decide) rfl (Nat.le_of_ble_eq_true rfl) ?_
  intro p e s m below meth c ls X hr P hl
  obtain ⟨hx, hb, hml, hown, hts, -, -, hlk⟩ := id X
  have S : CallFix p m c _ _ s _ lw_all RX7 := ⟨hx, hb, hml, hown, hts⟩
  have hl : lv_has ls 7 [(0, .ref (ad 0)), (1, .int a1), (2, .int a2), (3, .int a3)] := hl
  refine lv_iconst (v := (-1)) hx hb dX7_nextAt_0 (by decide) ?_
  refine lv_istore (lv' := [(4, .int (-1)), (0, .ref (ad 0)), (1, .int a1), (2, .int a2), (3, .int a3)]) hx hb dX7_nextAt_1 hl (by decide) rfl (fun ls hl => ?_)
  refine lv_iconst (v := 0) hx hb dX7_nextAt_3 (by decide) ?_
  refine lv_istore (lv' := [(5, .int 0), (4, .int (-1)), (0, .ref (ad 0)), (1, .int a1), (2, .int a2), (3, .int a3)]) hx hb dX7_nextAt_4 hl (by decide) rfl (fun ls hl => ?_)
  obtain ⟨n_19, hw⟩ := hw
  refine kwm_nextAt_L6 X hr _ _ _ _ _ P   n_19 _ _ _ (lv_sub hl [2, 3, 4, 5, 1, 0] rfl) hw
theorem cwm_nextAt {Q : Int32 → Prop} {a1 : Int32} {a2 : Int32} {a3 : Int32} {Z : State → Prop} {H : Heap} {locs : List Loc} {F : tF} {Ar : tA} (X : mCx p s m args meth c cc nL D cl ci dA dL) (P : mP D cl (mReg ad) ci dA dL ad s.heap F Ar H locs) (hw : wm_nextAt F Ar a1 a2 a3 Q) (hR : 1 + 1 ≤ R.frames ∧ 8 + (7 + 11) + 22 ≤ R.locals) (hls : ls.size = nL) (hst : (rest.map fun v => v.category).sum ≤ 8) (hdg : decode cc pc = .ok (.invokevirtual 233, 3)) (kk : ∀ r, Q r → W p l e R s m args below meth c H locs 0 0 Z (F0 m (pc + 3) ls (.int r :: rest))) : W p l e R s m args below meth c H locs 0 0 Z (F0 m pc ls (.int a3 :: .int a2 :: .int a1 :: .ref (ad 0) :: rest)) := by
  obtain ⟨hx, hb, hml, hown, hts, hK, hc, hlk⟩ := X
  exact vp_callSi (m_runR (as := [.int a1, .int a2, .int a3]) hx hb hml hown hts hK hc P.1 P.2.1 (twm_nextAt l D cl ci dA dL ad F Ar a1 a2 a3 Q hw) (cwV 3 hts (lw_V q1610 q1612 qs49 q88 q1613) rfl rfl rfl (by decide +kernel) hR) rfl hls hst hdg ⟨Nat.zero_le _, Nat.zero_le _⟩) kk
-- goes
def wm_goes_J78 (F : tF) (Ar : tA) (y1_6 : Int32) (y2_6 : Int32) (z0_6 : Int32) (z1_6 : Int32) (Kh2_1 : tA → Int32 → Prop) (Q : tF → tA → Prop) : Prop :=
  vp_in z1_6 16 ∧ ∀ Ar_7 : tA, Ar_7 = aset Ar 41 z1_6.toNatClampNeg z0_6 → vp_in y2_6 16 ∧ ∀ Ar_8 : tA, Ar_8 = aset Ar_7 42 y2_6.toNatClampNeg (-1) → (Kh2_1 Ar_8 (y2_6 + 1))
set_option maxHeartbeats 4000000 in
theorem kwm_goes_J78 {Q : tF → tA → Prop} (X : mCx p s m args meth c cX7_goes 6 D cl ci dA dL) (hr : meth.sig.returnType = none) {F : tF} {Ar : tA} (y1_6 : Int32) (y2_6 : Int32) (z0_6 : Int32) (z1_6 : Int32) (Kh2_1 : tA → Int32 → Prop) {H : Heap} {locs : List Loc} {ls : Array Slot} (P : mP D cl (mReg ad) ci dA dL ad s.heap F Ar H locs) (hl : lv_has ls 6 [(0, .ref (ad 0)), (1, .int y1_6), (2, .int y2_6)]) (hw : wm_goes_J78 F Ar y1_6 y2_6 z0_6 z1_6 Kh2_1 Q) (hKh2_1 : ∀ (Ar_ : tA) (w2_ : Int32) (H : Heap) (locs : List Loc) (ls : Array Slot), mP D cl (mReg ad) ci dA dL ad s.heap F Ar_ H locs → lv_has ls 6 [(0, .ref (ad 0)), (1, .int y1_6), (2, .int w2_)] → Kh2_1 Ar_ w2_ → W p l e ({ frames := 2, cells := 0, slots := 0, locals := 48 }) s m args below meth c H locs 0 0 (MQ below (mQv D cl ci dA dL ad Q) args s 0 0 (mReg ad)) (F0 m 2 ls [])) : W p l e ({ frames := 2, cells := 0, slots := 0, locals := 48 }) s m args below meth c H locs 0 0 (MQ below (mQv D cl ci dA dL ad Q) args s 0 0 (mReg ad)) (F0 m 78 ls [.int z0_6, .int z1_6, .ref (ad 42)]) := by
  obtain ⟨hx, hb, hml, hown, hts, -, -, hlk⟩ := id X
  have S : CallFix p m c _ _ s args lw_all RX7 := ⟨hx, hb, hml, hown, hts⟩
  refine m_iast X P 41 rfl (by decide) hw.1 dX7_goes_78 (fun Ar_7 H locs eAr_7 P => ?_)
  replace hw := hw.2
  replace hw := hw Ar_7 eAr_7
  refine lv_aload_n hx hb dX7_goes_79 rfl (lv_at hl 0 rfl) ?_
  refine mg_passed X P dX7_goes_80 ?_
  refine lv_iload_n hx hb dX7_goes_83 rfl (lv_at hl 2 rfl) ?_
  refine lv_iconst (v := (-1)) hx hb dX7_goes_84 (by decide) ?_
  refine m_iast X P 42 rfl (by decide) hw.1 dX7_goes_85 (fun Ar_8 H locs eAr_8 P => ?_)
  replace hw := hw.2
  replace hw := hw Ar_8 eAr_8
  refine lv_iinc (v := (y2_6 + 1)) (lv' := [(2, .int (y2_6 + 1)), (0, .ref (ad 0)), (1, .int y1_6)]) hx hb dX7_goes_86 hl (k := 2) rfl rfl (by decide) rfl (fun ls hl => ?_)
  refine lv_goto (tgt := 2) hx hb dX7_goes_89 (by decide) ?_
  exact hKh2_1 _ _ _ _ _ P (lv_sub hl [1, 2, 0] rfl) hw
def wm_goes_J61 (F : tF) (Ar : tA) (y1_4 : Int32) (y2_4 : Int32) (z0_4 : Int32) (Kh2_1 : tA → Int32 → Prop) (Q : tF → tA → Prop) : Prop :=
  ((z0_4 ≤ 23 → (wm_goes_J78 F Ar y1_4 y2_4 z0_4 y2_4 Kh2_1 Q)) ∧ (¬ z0_4 ≤ 23 → (wm_goes_J78 F Ar y1_4 y2_4 (-1) y2_4 Kh2_1 Q)))
set_option maxHeartbeats 4000000 in
theorem kwm_goes_J61 {Q : tF → tA → Prop} (X : mCx p s m args meth c cX7_goes 6 D cl ci dA dL) (hr : meth.sig.returnType = none) {F : tF} {Ar : tA} (y1_4 : Int32) (y2_4 : Int32) (z0_4 : Int32) (Kh2_1 : tA → Int32 → Prop) {H : Heap} {locs : List Loc} {ls : Array Slot} (P : mP D cl (mReg ad) ci dA dL ad s.heap F Ar H locs) (hl : lv_has ls 6 [(0, .ref (ad 0)), (1, .int y1_4), (2, .int y2_4)]) (hw : wm_goes_J61 F Ar y1_4 y2_4 z0_4 Kh2_1 Q) (hKh2_1 : ∀ (Ar_ : tA) (w2_ : Int32) (H : Heap) (locs : List Loc) (ls : Array Slot), mP D cl (mReg ad) ci dA dL ad s.heap F Ar_ H locs → lv_has ls 6 [(0, .ref (ad 0)), (1, .int y1_4), (2, .int w2_)] → Kh2_1 Ar_ w2_ → W p l e ({ frames := 2, cells := 0, slots := 0, locals := 48 }) s m args below meth c H locs 0 0 (MQ below (mQv D cl ci dA dL ad Q) args s 0 0 (mReg ad)) (F0 m 2 ls [])) : W p l e ({ frames := 2, cells := 0, slots := 0, locals := 48 }) s m args below meth c H locs 0 0 (MQ below (mQv D cl ci dA dL ad Q) args s 0 0 (mReg ad)) (F0 m 61 ls [.int z0_4]) := by
  obtain ⟨hx, hb, hml, hown, hts, -, -, hlk⟩ := id X
  have S : CallFix p m c _ _ s args lw_all RX7 := ⟨hx, hb, hml, hown, hts⟩
  refine lv_istore_n (lv' := [(3, .int z0_4), (0, .ref (ad 0)), (1, .int y1_4), (2, .int y2_4)]) hx hb dX7_goes_61 rfl hl (by decide) rfl (fun ls hl => ?_)
  refine lv_aload_n hx hb dX7_goes_62 rfl (lv_at hl 1 rfl) ?_
  refine mg_came X P dX7_goes_63 ?_
  refine lv_iload_n hx hb dX7_goes_66 rfl (lv_at hl 3 rfl) ?_
  refine lv_iload_n hx hb dX7_goes_67 rfl (lv_at hl 0 rfl) ?_
  refine lv_bipush (v := 23) hx hb dX7_goes_68 (by decide) ?_
  refine lv_icmp_le (tgt := 77) hx hb dX7_goes_70 (by decide) (fun c_5 => ?_) (fun c_5 => ?_)
  · replace hw := hw.1 c_5
    refine lv_iload_n hx hb dX7_goes_77 rfl (lv_at hl 0 rfl) ?_
    exact kwm_goes_J78 X hr _ _ _ _ _ P (lv_sub hl [1, 2, 3] rfl) hw hKh2_1
  · replace hw := hw.2 c_5
    refine lv_iconst (v := (-1)) hx hb dX7_goes_73 (by decide) ?_
    refine lv_goto (tgt := 78) hx hb dX7_goes_74 (by decide) ?_
    exact kwm_goes_J78 X hr _ _ _ _ _ P (lv_sub hl [1, 2, 3] rfl) hw hKh2_1
def wm_goes_L2 (F : tF) (y1_1 : Int32) (Kx92_1 : tA → Prop) (Q : tF → tA → Prop) : Nat → tA → Int32 → Prop
  | 0, _, _ => False
  | f2 + 1, Ar, y2_1 =>
    vp_in y1_1 8 ∧ (((Ar 10 y1_1.toNatClampNeg) ≤ y2_1 → (Kx92_1 Ar)) ∧ (¬ (Ar 10 y1_1.toNatClampNeg) ≤ y2_1 → vp_in y2_1 16 ∧ ((¬ (Ar 40 y2_1.toNatClampNeg) = 48 → vp_in y2_1 16 ∧ vp_in y2_1 16 ∧ vp_in y2_1 16 ∧ vp_in ((2 * (Ar 7 y2_1.toNatClampNeg)) + ((Ar 40 y2_1.toNatClampNeg) / 24)) 8 ∧ (wm_goes_J61 F Ar y1_1 y2_1 (((Ar 40 y2_1.toNatClampNeg) - (Ar 40 y2_1.toNatClampNeg) / 24 * 24) + (Ar 5 ((2 * (Ar 7 y2_1.toNatClampNeg)) + ((Ar 40 y2_1.toNatClampNeg) / 24)).toNatClampNeg)) (wm_goes_L2 F y1_1 Kx92_1 Q f2) Q)) ∧ ((Ar 40 y2_1.toNatClampNeg) = 48 → (wm_goes_J61 F Ar y1_1 y2_1 24 (wm_goes_L2 F y1_1 Kx92_1 Q f2) Q)))))
set_option maxHeartbeats 4000000 in
theorem kwm_goes_L2 {Q : tF → tA → Prop} (X : mCx p s m args meth c cX7_goes 6 D cl ci dA dL) (hr : meth.sig.returnType = none) (F : tF) (y1_1 : Int32) (Kx92_1 : tA → Prop) (hKx92_1 : ∀ (Ar_ : tA) (H : Heap) (locs : List Loc) (ls : Array Slot), mP D cl (mReg ad) ci dA dL ad s.heap F Ar_ H locs → lv_has ls 6 [(0, .ref (ad 0)), (1, .int y1_1)] → Kx92_1 Ar_ → W p l e ({ frames := 2, cells := 0, slots := 0, locals := 48 }) s m args below meth c H locs 0 0 (MQ below (mQv D cl ci dA dL ad Q) args s 0 0 (mReg ad)) (F0 m 92 ls [])) : ∀ (n : Nat) (Ar : tA) (y2_1 : Int32) (H : Heap) (locs : List Loc) (ls : Array Slot), mP D cl (mReg ad) ci dA dL ad s.heap F Ar H locs → lv_has ls 6 [(0, .ref (ad 0)), (1, .int y1_1), (2, .int y2_1)] → wm_goes_L2 F y1_1 Kx92_1 Q n Ar y2_1 → W p l e ({ frames := 2, cells := 0, slots := 0, locals := 48 }) s m args below meth c H locs 0 0 (MQ below (mQv D cl ci dA dL ad Q) args s 0 0 (mReg ad)) (F0 m 2 ls []) := by
  obtain ⟨hx, hb, hml, hown, hts, -, -, hlk⟩ := id X
  have S : CallFix p m c _ _ s args lw_all RX7 := ⟨hx, hb, hml, hown, hts⟩
  intro n
  induction n with
  | zero =>
    intro Ar y2_1 H locs ls P hl hw
    exact hw.elim
  | succ n ih =>
    intro Ar y2_1 H locs ls P hl hw
    have hKh2_1 := ih
    refine lv_iload_n hx hb dX7_goes_2 rfl (lv_at hl 2 rfl) ?_
    refine lv_aload_n hx hb dX7_goes_3 rfl (lv_at hl 0 rfl) ?_
    refine mg_many X P dX7_goes_4 ?_
    refine lv_iload_n hx hb dX7_goes_7 rfl (lv_at hl 1 rfl) ?_
    refine m_iald X P 10 rfl (by decide) hw.1 dX7_goes_8 ?_
    replace hw := hw.2
    refine lv_icmp_ge (tgt := 92) hx hb dX7_goes_9 (by decide) (fun c_2 => ?_) (fun c_2 => ?_)
    · replace hw := hw.1 c_2
      exact hKx92_1 _ _ _ _ P (lv_sub hl [0, 1] rfl) hw
    · replace hw := hw.2 c_2
      refine lv_aload_n hx hb dX7_goes_12 rfl (lv_at hl 0 rfl) ?_
      refine mg_now X P dX7_goes_13 ?_
      refine lv_iload_n hx hb dX7_goes_16 rfl (lv_at hl 2 rfl) ?_
      refine m_iald X P 40 rfl (by decide) hw.1 dX7_goes_17 ?_
      replace hw := hw.2
      refine lv_bipush (v := 48) hx hb dX7_goes_18 (by decide) ?_
      refine lv_icmp_ne (tgt := 28) hx hb dX7_goes_20 (by decide) (fun c_3 => ?_) (fun c_3 => ?_)
      · replace hw := hw.1 c_3
        refine lv_aload_n hx hb dX7_goes_28 rfl (lv_at hl 0 rfl) ?_
        refine mg_now X P dX7_goes_29 ?_
        refine lv_iload_n hx hb dX7_goes_32 rfl (lv_at hl 2 rfl) ?_
        refine m_iald X P 40 rfl (by decide) hw.1 dX7_goes_33 ?_
        replace hw := hw.2
        refine lv_bipush (v := 24) hx hb dX7_goes_34 (by decide) ?_
        refine lv_irem hx hb dX7_goes_36 (by decide) ?_
        refine lv_aload_n hx hb dX7_goes_37 rfl (lv_at hl 0 rfl) ?_
        refine mg_road X P dX7_goes_38 ?_
        refine lv_iconst (v := 2) hx hb dX7_goes_41 (by decide) ?_
        refine lv_aload_n hx hb dX7_goes_42 rfl (lv_at hl 0 rfl) ?_
        refine mg_sortOf X P dX7_goes_43 ?_
        refine lv_iload_n hx hb dX7_goes_46 rfl (lv_at hl 2 rfl) ?_
        refine m_iald X P 7 rfl (by decide) hw.1 dX7_goes_47 ?_
        replace hw := hw.2
        refine lv_imul hx hb dX7_goes_48 ?_
        refine lv_aload_n hx hb dX7_goes_49 rfl (lv_at hl 0 rfl) ?_
        refine mg_now X P dX7_goes_50 ?_
        refine lv_iload_n hx hb dX7_goes_53 rfl (lv_at hl 2 rfl) ?_
        refine m_iald X P 40 rfl (by decide) hw.1 dX7_goes_54 ?_
        replace hw := hw.2
        refine lv_bipush (v := 24) hx hb dX7_goes_55 (by decide) ?_
        refine lv_idiv hx hb dX7_goes_57 (by decide) ?_
        refine lv_iadd hx hb dX7_goes_58 ?_
        refine m_iald X P 5 rfl (by decide) hw.1 dX7_goes_59 ?_
        replace hw := hw.2
        refine lv_iadd hx hb dX7_goes_60 ?_
        exact kwm_goes_J61 X hr _ _ _ _ P (lv_sub hl [0, 1, 2] rfl) hw hKh2_1
      · replace hw := hw.2 c_3
        refine lv_bipush (v := 24) hx hb dX7_goes_23 (by decide) ?_
        refine lv_goto (tgt := 61) hx hb dX7_goes_25 (by decide) ?_
        exact kwm_goes_J61 X hr _ _ _ _ P (lv_sub hl [0, 1, 2] rfl) hw hKh2_1
def wm_goes_J193 (F : tF) (Ar : tA) (y1_22 : Int32) (y2_22 : Int32) (y3_22 : Int32) (y4_22 : Int32) (y5_22 : Int32) (Kh118_15 : tF → tA → Int32 → Int32 → Prop) (Q : tF → tA → Prop) : Prop :=
  (Kh118_15 F Ar y4_22 (y5_22 + 1))
set_option maxHeartbeats 4000000 in
theorem kwm_goes_J193 {Q : tF → tA → Prop} (X : mCx p s m args meth c cX7_goes 6 D cl ci dA dL) (hr : meth.sig.returnType = none) {F : tF} {Ar : tA} (y1_22 : Int32) (y2_22 : Int32) (y3_22 : Int32) (y4_22 : Int32) (y5_22 : Int32) (Kh118_15 : tF → tA → Int32 → Int32 → Prop) {H : Heap} {locs : List Loc} {ls : Array Slot} (P : mP D cl (mReg ad) ci dA dL ad s.heap F Ar H locs) (hl : lv_has ls 6 [(0, .ref (ad 0)), (1, .int y1_22), (2, .int y2_22), (3, .int y3_22), (4, .int y4_22), (5, .int y5_22)]) (hw : wm_goes_J193 F Ar y1_22 y2_22 y3_22 y4_22 y5_22 Kh118_15 Q) (hKh118_15 : ∀ (F_ : tF) (Ar_ : tA) (w4_ : Int32) (w5_ : Int32) (H : Heap) (locs : List Loc) (ls : Array Slot), mP D cl (mReg ad) ci dA dL ad s.heap F_ Ar_ H locs → lv_has ls 6 [(0, .ref (ad 0)), (1, .int y1_22), (2, .int y2_22), (3, .int y3_22), (4, .int w4_), (5, .int w5_)] → Kh118_15 F_ Ar_ w4_ w5_ → W p l e ({ frames := 2, cells := 0, slots := 0, locals := 48 }) s m args below meth c H locs 0 0 (MQ below (mQv D cl ci dA dL ad Q) args s 0 0 (mReg ad)) (F0 m 118 ls [])) : W p l e ({ frames := 2, cells := 0, slots := 0, locals := 48 }) s m args below meth c H locs 0 0 (MQ below (mQv D cl ci dA dL ad Q) args s 0 0 (mReg ad)) (F0 m 193 ls []) := by
  obtain ⟨hx, hb, hml, hown, hts, -, -, hlk⟩ := id X
  have S : CallFix p m c _ _ s args lw_all RX7 := ⟨hx, hb, hml, hown, hts⟩
  refine lv_iinc (v := (y5_22 + 1)) (lv' := [(5, .int (y5_22 + 1)), (0, .ref (ad 0)), (1, .int y1_22), (2, .int y2_22), (3, .int y3_22), (4, .int y4_22)]) hx hb dX7_goes_193 hl (k := 5) rfl rfl (by decide) rfl (fun ls hl => ?_)
  refine lv_goto (tgt := 118) hx hb dX7_goes_196 (by decide) ?_
  exact hKh118_15 _ _ _ _ _ _ _ P (lv_sub hl [1, 2, 3, 4, 5, 0] rfl) hw
def wm_goes_J156 (F : tF) (Ar : tA) (y1_20 : Int32) (y2_20 : Int32) (y3_20 : Int32) (y5_20 : Int32) (z0_20 : Int32) (Kh118_15 : tF → tA → Int32 → Int32 → Prop) (Q : tF → tA → Prop) : Prop :=
  ((z0_20 = (-1) → (wm_goes_J193 F Ar y1_20 y2_20 y3_20 z0_20 y5_20 Kh118_15 Q)) ∧ (¬ z0_20 = (-1) → vp_in z0_20 16 ∧ ∀ Ar_23 : tA, Ar_23 = aset Ar 42 z0_20.toNatClampNeg y2_20 → vp_in (F 44) 16 ∧ ∀ Ar_24 : tA, Ar_24 = aset Ar_23 43 (F 44).toNatClampNeg z0_20 → ∀ F_25 : tF, F_25 = upd F 44 ((F 44) + 1) → (wm_goes_J193 F_25 Ar_24 y1_20 y2_20 y3_20 z0_20 y5_20 Kh118_15 Q)))
set_option maxHeartbeats 4000000 in
theorem kwm_goes_J156 {Q : tF → tA → Prop} (X : mCx p s m args meth c cX7_goes 6 D cl ci dA dL) (hr : meth.sig.returnType = none) {F : tF} {Ar : tA} (y1_20 : Int32) (y2_20 : Int32) (y3_20 : Int32) (y5_20 : Int32) (z0_20 : Int32) (Kh118_15 : tF → tA → Int32 → Int32 → Prop) {H : Heap} {locs : List Loc} {ls : Array Slot} (P : mP D cl (mReg ad) ci dA dL ad s.heap F Ar H locs) (hl : lv_has ls 6 [(0, .ref (ad 0)), (1, .int y1_20), (2, .int y2_20), (3, .int y3_20), (5, .int y5_20)]) (hw : wm_goes_J156 F Ar y1_20 y2_20 y3_20 y5_20 z0_20 Kh118_15 Q) (hKh118_15 : ∀ (F_ : tF) (Ar_ : tA) (w4_ : Int32) (w5_ : Int32) (H : Heap) (locs : List Loc) (ls : Array Slot), mP D cl (mReg ad) ci dA dL ad s.heap F_ Ar_ H locs → lv_has ls 6 [(0, .ref (ad 0)), (1, .int y1_20), (2, .int y2_20), (3, .int y3_20), (4, .int w4_), (5, .int w5_)] → Kh118_15 F_ Ar_ w4_ w5_ → W p l e ({ frames := 2, cells := 0, slots := 0, locals := 48 }) s m args below meth c H locs 0 0 (MQ below (mQv D cl ci dA dL ad Q) args s 0 0 (mReg ad)) (F0 m 118 ls [])) : W p l e ({ frames := 2, cells := 0, slots := 0, locals := 48 }) s m args below meth c H locs 0 0 (MQ below (mQv D cl ci dA dL ad Q) args s 0 0 (mReg ad)) (F0 m 156 ls [.int z0_20]) := by
  obtain ⟨hx, hb, hml, hown, hts, -, -, hlk⟩ := id X
  have S : CallFix p m c _ _ s args lw_all RX7 := ⟨hx, hb, hml, hown, hts⟩
  refine lv_istore (lv' := [(4, .int z0_20), (0, .ref (ad 0)), (1, .int y1_20), (2, .int y2_20), (3, .int y3_20), (5, .int y5_20)]) hx hb dX7_goes_156 hl (by decide) rfl (fun ls hl => ?_)
  refine lv_iload hx hb dX7_goes_158 (lv_at hl 0 rfl) ?_
  refine lv_iconst (v := (-1)) hx hb dX7_goes_160 (by decide) ?_
  refine lv_icmp_eq (tgt := 193) hx hb dX7_goes_161 (by decide) (fun c_21 => ?_) (fun c_21 => ?_)
  · replace hw := hw.1 c_21
    exact kwm_goes_J193 X hr _ _ _ _ _ _ P (lv_sub hl [1, 2, 3, 4, 0, 5] rfl) hw hKh118_15
  · replace hw := hw.2 c_21
    refine lv_aload_n hx hb dX7_goes_164 rfl (lv_at hl 1 rfl) ?_
    refine mg_passed X P dX7_goes_165 ?_
    refine lv_iload hx hb dX7_goes_168 (lv_at hl 0 rfl) ?_
    refine lv_iload_n hx hb dX7_goes_170 rfl (lv_at hl 3 rfl) ?_
    refine m_iast X P 42 rfl (by decide) hw.1 dX7_goes_171 (fun Ar_23 H locs eAr_23 P => ?_)
    replace hw := hw.2
    replace hw := hw Ar_23 eAr_23
    refine lv_aload_n hx hb dX7_goes_172 rfl (lv_at hl 1 rfl) ?_
    refine mg_order X P dX7_goes_173 ?_
    refine lv_aload_n hx hb dX7_goes_176 rfl (lv_at hl 1 rfl) ?_
    refine mg_passMany X P dX7_goes_177 ?_
    refine lv_iload hx hb dX7_goes_180 (lv_at hl 0 rfl) ?_
    refine m_iast X P 43 rfl (by decide) hw.1 dX7_goes_182 (fun Ar_24 H locs eAr_24 P => ?_)
    replace hw := hw.2
    replace hw := hw Ar_24 eAr_24
    refine lv_aload_n hx hb dX7_goes_183 rfl (lv_at hl 1 rfl) ?_
    refine lv_dup hx hb dX7_goes_184 rfl ?_
    refine mg_passMany X P dX7_goes_185 ?_
    refine lv_iconst (v := 1) hx hb dX7_goes_188 (by decide) ?_
    refine lv_iadd hx hb dX7_goes_189 ?_
    refine mp_passMany X P dX7_goes_190 (fun F_25 H locs eF_25 P => ?_)
    replace hw := hw F_25 eF_25
    exact kwm_goes_J193 X hr _ _ _ _ _ _ P (lv_sub hl [1, 2, 3, 4, 0, 5] rfl) hw hKh118_15
def wm_goes_J145 (F : tF) (Ar : tA) (y1_18 : Int32) (y2_18 : Int32) (y3_18 : Int32) (y5_18 : Int32) (Kh118_15 : tF → tA → Int32 → Int32 → Prop) (Q : tF → tA → Prop) : Prop :=
  wm_nextAt F Ar y1_18 y3_18 y2_18 (fun r_19 => (wm_goes_J156 F Ar y1_18 y2_18 y3_18 y5_18 r_19 Kh118_15 Q))
set_option maxHeartbeats 4000000 in
theorem kwm_goes_J145 {Q : tF → tA → Prop} (X : mCx p s m args meth c cX7_goes 6 D cl ci dA dL) (hr : meth.sig.returnType = none) {F : tF} {Ar : tA} (y1_18 : Int32) (y2_18 : Int32) (y3_18 : Int32) (y5_18 : Int32) (Kh118_15 : tF → tA → Int32 → Int32 → Prop) {H : Heap} {locs : List Loc} {ls : Array Slot} (P : mP D cl (mReg ad) ci dA dL ad s.heap F Ar H locs) (hl : lv_has ls 6 [(0, .ref (ad 0)), (1, .int y1_18), (2, .int y2_18), (3, .int y3_18), (5, .int y5_18)]) (hw : wm_goes_J145 F Ar y1_18 y2_18 y3_18 y5_18 Kh118_15 Q) (hKh118_15 : ∀ (F_ : tF) (Ar_ : tA) (w4_ : Int32) (w5_ : Int32) (H : Heap) (locs : List Loc) (ls : Array Slot), mP D cl (mReg ad) ci dA dL ad s.heap F_ Ar_ H locs → lv_has ls 6 [(0, .ref (ad 0)), (1, .int y1_18), (2, .int y2_18), (3, .int y3_18), (4, .int w4_), (5, .int w5_)] → Kh118_15 F_ Ar_ w4_ w5_ → W p l e ({ frames := 2, cells := 0, slots := 0, locals := 48 }) s m args below meth c H locs 0 0 (MQ below (mQv D cl ci dA dL ad Q) args s 0 0 (mReg ad)) (F0 m 118 ls [])) : W p l e ({ frames := 2, cells := 0, slots := 0, locals := 48 }) s m args below meth c H locs 0 0 (MQ below (mQv D cl ci dA dL ad Q) args s 0 0 (mReg ad)) (F0 m 145 ls []) := by
  obtain ⟨hx, hb, hml, hown, hts, -, -, hlk⟩ := id X
  have S : CallFix p m c _ _ s args lw_all RX7 := ⟨hx, hb, hml, hown, hts⟩
  refine lv_aload_n hx hb dX7_goes_145 rfl (lv_at hl 0 rfl) ?_
  refine lv_iload_n hx hb dX7_goes_146 rfl (lv_at hl 1 rfl) ?_
  refine lv_iload_n hx hb dX7_goes_147 rfl (lv_at hl 3 rfl) ?_
  refine lv_iload_n hx hb dX7_goes_148 rfl (lv_at hl 2 rfl) ?_
  refine cwm_nextAt X P hw ⟨Nat.le_of_ble_eq_true rfl, Nat.le_of_ble_eq_true rfl⟩ hl.1 (Nat.le_of_ble_eq_true rfl) dX7_goes_149 (fun r_19 hw => ?_)
  refine lv_goto (tgt := 156) hx hb dX7_goes_152 (by decide) ?_
  exact kwm_goes_J156 X hr _ _ _ _ _ _ P (lv_sub hl [0, 1, 2, 3, 4] rfl) hw hKh118_15
def wm_goes_L118 (y1_15 : Int32) (y2_15 : Int32) (y3_15 : Int32) (Kx199_15 : tF → tA → Prop) (Q : tF → tA → Prop) : Nat → tF → tA → Int32 → Int32 → Prop
  | 0, _, _, _, _ => False
  | f118 + 1, F, Ar, y4_15, y5_15 =>
    vp_in ((24 * y3_15) + y2_15) 48 ∧ (((Ar 0 ((24 * y3_15) + y2_15).toNatClampNeg) ≤ y5_15 → (Kx199_15 F Ar)) ∧ (¬ (Ar 0 ((24 * y3_15) + y2_15).toNatClampNeg) ≤ y5_15 → ((y5_15 = 0 → (wm_goes_J145 F Ar y1_15 y2_15 y3_15 y5_15 (wm_goes_L118 y1_15 y2_15 y3_15 Kx199_15 Q f118) Q)) ∧ (¬ y5_15 = 0 → ((y4_15 = (-1) → (wm_goes_J156 F Ar y1_15 y2_15 y3_15 y5_15 (-1) (wm_goes_L118 y1_15 y2_15 y3_15 Kx199_15 Q f118) Q)) ∧ (¬ y4_15 = (-1) → (wm_goes_J145 F Ar y1_15 y2_15 y3_15 y5_15 (wm_goes_L118 y1_15 y2_15 y3_15 Kx199_15 Q f118) Q)))))))
set_option maxHeartbeats 4000000 in
theorem kwm_goes_L118 {Q : tF → tA → Prop} (X : mCx p s m args meth c cX7_goes 6 D cl ci dA dL) (hr : meth.sig.returnType = none) (y1_15 : Int32) (y2_15 : Int32) (y3_15 : Int32) (Kx199_15 : tF → tA → Prop) (hKx199_15 : ∀ (F_ : tF) (Ar_ : tA) (H : Heap) (locs : List Loc) (ls : Array Slot), mP D cl (mReg ad) ci dA dL ad s.heap F_ Ar_ H locs → lv_has ls 6 [(0, .ref (ad 0)), (1, .int y1_15), (2, .int y2_15), (3, .int y3_15)] → Kx199_15 F_ Ar_ → W p l e ({ frames := 2, cells := 0, slots := 0, locals := 48 }) s m args below meth c H locs 0 0 (MQ below (mQv D cl ci dA dL ad Q) args s 0 0 (mReg ad)) (F0 m 199 ls [])) : ∀ (n : Nat) (F : tF) (Ar : tA) (y4_15 : Int32) (y5_15 : Int32) (H : Heap) (locs : List Loc) (ls : Array Slot), mP D cl (mReg ad) ci dA dL ad s.heap F Ar H locs → lv_has ls 6 [(0, .ref (ad 0)), (1, .int y1_15), (2, .int y2_15), (3, .int y3_15), (4, .int y4_15), (5, .int y5_15)] → wm_goes_L118 y1_15 y2_15 y3_15 Kx199_15 Q n F Ar y4_15 y5_15 → W p l e ({ frames := 2, cells := 0, slots := 0, locals := 48 }) s m args below meth c H locs 0 0 (MQ below (mQv D cl ci dA dL ad Q) args s 0 0 (mReg ad)) (F0 m 118 ls []) := by
  obtain ⟨hx, hb, hml, hown, hts, -, -, hlk⟩ := id X
  have S : CallFix p m c _ _ s args lw_all RX7 := ⟨hx, hb, hml, hown, hts⟩
  intro n
  induction n with
  | zero =>
    intro F Ar y4_15 y5_15 H locs ls P hl hw
    exact hw.elim
  | succ n ih =>
    intro F Ar y4_15 y5_15 H locs ls P hl hw
    have hKh118_15 := ih
    refine lv_iload hx hb dX7_goes_118 (lv_at hl 5 rfl) ?_
    refine lv_aload_n hx hb dX7_goes_120 rfl (lv_at hl 0 rfl) ?_
    refine mg_rate X P dX7_goes_121 ?_
    refine lv_bipush (v := 24) hx hb dX7_goes_124 (by decide) ?_
    refine lv_iload_n hx hb dX7_goes_126 rfl (lv_at hl 3 rfl) ?_
    refine lv_imul hx hb dX7_goes_127 ?_
    refine lv_iload_n hx hb dX7_goes_128 rfl (lv_at hl 2 rfl) ?_
    refine lv_iadd hx hb dX7_goes_129 ?_
    refine m_iald X P 0 rfl (by decide) hw.1 dX7_goes_130 ?_
    replace hw := hw.2
    refine lv_icmp_ge (tgt := 199) hx hb dX7_goes_131 (by decide) (fun c_16 => ?_) (fun c_16 => ?_)
    · replace hw := hw.1 c_16
      exact hKx199_15 _ _ _ _ _ P (lv_sub hl [0, 1, 2, 3] rfl) hw
    · replace hw := hw.2 c_16
      refine lv_iload hx hb dX7_goes_134 (lv_at hl 5 rfl) ?_
      refine lv_if_eq (tgt := 145) hx hb dX7_goes_136 (by decide) (fun c_17 => ?_) (fun c_17 => ?_)
      · replace hw := hw.1 c_17
        exact kwm_goes_J145 X hr _ _ _ _ _ P (lv_sub hl [0, 1, 2, 3, 5] rfl) hw hKh118_15
      · replace hw := hw.2 c_17
        refine lv_iload hx hb dX7_goes_139 (lv_at hl 4 rfl) ?_
        refine lv_iconst (v := (-1)) hx hb dX7_goes_141 (by decide) ?_
        refine lv_icmp_eq (tgt := 155) hx hb dX7_goes_142 (by decide) (fun c_26 => ?_) (fun c_26 => ?_)
        · replace hw := hw.1 c_26
          refine lv_iconst (v := (-1)) hx hb dX7_goes_155 (by decide) ?_
          exact kwm_goes_J156 X hr _ _ _ _ _ _ P (lv_sub hl [0, 1, 2, 3, 5] rfl) hw hKh118_15
        · replace hw := hw.2 c_26
          exact kwm_goes_J145 X hr _ _ _ _ _ P (lv_sub hl [0, 1, 2, 3, 5] rfl) hw hKh118_15
def wm_goes_L107 (y1_13 : Int32) (y2_13 : Int32) (Kx205_13 : tF → tA → Prop) (Q : tF → tA → Prop) : Nat → tF → tA → Int32 → Prop
  | 0, _, _, _ => False
  | f107 + 1, F, Ar, y3_13 =>
    (((2 : Int32) ≤ y3_13 → (Kx205_13 F Ar)) ∧ (¬ (2 : Int32) ≤ y3_13 → (∃ n118, wm_goes_L118 y1_13 y2_13 y3_13 (fun (F_27 : tF) (Ar_28 : tA) => ((wm_goes_L107 y1_13 y2_13 Kx205_13 Q f107) F_27 Ar_28 (y3_13 + 1))) Q n118 F Ar (-1) 0)))
set_option maxHeartbeats 4000000 in
theorem kwm_goes_L107 {Q : tF → tA → Prop} (X : mCx p s m args meth c cX7_goes 6 D cl ci dA dL) (hr : meth.sig.returnType = none) (y1_13 : Int32) (y2_13 : Int32) (Kx205_13 : tF → tA → Prop) (hKx205_13 : ∀ (F_ : tF) (Ar_ : tA) (H : Heap) (locs : List Loc) (ls : Array Slot), mP D cl (mReg ad) ci dA dL ad s.heap F_ Ar_ H locs → lv_has ls 6 [(0, .ref (ad 0)), (1, .int y1_13), (2, .int y2_13)] → Kx205_13 F_ Ar_ → W p l e ({ frames := 2, cells := 0, slots := 0, locals := 48 }) s m args below meth c H locs 0 0 (MQ below (mQv D cl ci dA dL ad Q) args s 0 0 (mReg ad)) (F0 m 205 ls [])) : ∀ (n : Nat) (F : tF) (Ar : tA) (y3_13 : Int32) (H : Heap) (locs : List Loc) (ls : Array Slot), mP D cl (mReg ad) ci dA dL ad s.heap F Ar H locs → lv_has ls 6 [(0, .ref (ad 0)), (1, .int y1_13), (2, .int y2_13), (3, .int y3_13)] → wm_goes_L107 y1_13 y2_13 Kx205_13 Q n F Ar y3_13 → W p l e ({ frames := 2, cells := 0, slots := 0, locals := 48 }) s m args below meth c H locs 0 0 (MQ below (mQv D cl ci dA dL ad Q) args s 0 0 (mReg ad)) (F0 m 107 ls []) := by
  obtain ⟨hx, hb, hml, hown, hts, -, -, hlk⟩ := id X
  have S : CallFix p m c _ _ s args lw_all RX7 := ⟨hx, hb, hml, hown, hts⟩
  intro n
  induction n with
  | zero =>
    intro F Ar y3_13 H locs ls P hl hw
    exact hw.elim
  | succ n ih =>
    intro F Ar y3_13 H locs ls P hl hw
    have hKh107_13 := ih
    refine lv_iload_n hx hb dX7_goes_107 rfl (lv_at hl 3 rfl) ?_
    refine lv_iconst (v := 2) hx hb dX7_goes_108 (by decide) ?_
    refine lv_icmp_ge (tgt := 205) hx hb dX7_goes_109 (by decide) (fun c_14 => ?_) (fun c_14 => ?_)
    · replace hw := hw.1 c_14
      exact hKx205_13 _ _ _ _ _ P (lv_sub hl [0, 1, 2] rfl) hw
    · replace hw := hw.2 c_14
      refine lv_iconst (v := (-1)) hx hb dX7_goes_112 (by decide) ?_
      refine lv_istore (lv' := [(4, .int (-1)), (0, .ref (ad 0)), (1, .int y1_13), (2, .int y2_13), (3, .int y3_13)]) hx hb dX7_goes_113 hl (by decide) rfl (fun ls hl => ?_)
      refine lv_iconst (v := 0) hx hb dX7_goes_115 (by decide) ?_
      refine lv_istore (lv' := [(5, .int 0), (4, .int (-1)), (0, .ref (ad 0)), (1, .int y1_13), (2, .int y2_13), (3, .int y3_13)]) hx hb dX7_goes_116 hl (by decide) rfl (fun ls hl => ?_)
      obtain ⟨n_29, hw⟩ := hw
      refine kwm_goes_L118 X hr _ _ _ _   ?_ n_29 _ _ _ _ _ _ _ P (lv_sub hl [2, 3, 4, 5, 1, 0] rfl) hw
      · intro F_27 Ar_28 H locs ls P hl hw
        refine lv_iinc (v := (y3_13 + 1)) (lv' := [(3, .int (y3_13 + 1)), (0, .ref (ad 0)), (1, .int y1_13), (2, .int y2_13)]) hx hb dX7_goes_199 hl (k := 3) rfl rfl (by decide) rfl (fun ls hl => ?_)
        refine lv_goto (tgt := 107) hx hb dX7_goes_202 (by decide) ?_
        exact hKh107_13 _ _ _ _ _ _ P (lv_sub hl [1, 2, 3, 0] rfl) hw
def wm_goes_L99 (y1_11 : Int32) (Q : tF → tA → Prop) : Nat → tF → tA → Int32 → Prop
  | 0, _, _, _ => False
  | f99 + 1, F, Ar, y2_11 =>
    (((24 : Int32) ≤ y2_11 → Q F Ar) ∧ (¬ (24 : Int32) ≤ y2_11 → (∃ n107, wm_goes_L107 y1_11 y2_11 (fun (F_30 : tF) (Ar_31 : tA) => ((wm_goes_L99 y1_11 Q f99) F_30 Ar_31 (y2_11 + 1))) Q n107 F Ar 0)))
set_option maxHeartbeats 4000000 in
theorem kwm_goes_L99 {Q : tF → tA → Prop} (X : mCx p s m args meth c cX7_goes 6 D cl ci dA dL) (hr : meth.sig.returnType = none) (y1_11 : Int32) : ∀ (n : Nat) (F : tF) (Ar : tA) (y2_11 : Int32) (H : Heap) (locs : List Loc) (ls : Array Slot), mP D cl (mReg ad) ci dA dL ad s.heap F Ar H locs → lv_has ls 6 [(0, .ref (ad 0)), (1, .int y1_11), (2, .int y2_11)] → wm_goes_L99 y1_11 Q n F Ar y2_11 → W p l e ({ frames := 2, cells := 0, slots := 0, locals := 48 }) s m args below meth c H locs 0 0 (MQ below (mQv D cl ci dA dL ad Q) args s 0 0 (mReg ad)) (F0 m 99 ls []) := by
  obtain ⟨hx, hb, hml, hown, hts, -, -, hlk⟩ := id X
  have S : CallFix p m c _ _ s args lw_all RX7 := ⟨hx, hb, hml, hown, hts⟩
  intro n
  induction n with
  | zero =>
    intro F Ar y2_11 H locs ls P hl hw
    exact hw.elim
  | succ n ih =>
    intro F Ar y2_11 H locs ls P hl hw
    have hKh99_11 := ih
    refine lv_iload_n hx hb dX7_goes_99 rfl (lv_at hl 2 rfl) ?_
    refine lv_bipush (v := 24) hx hb dX7_goes_100 (by decide) ?_
    refine lv_icmp_ge (tgt := 211) hx hb dX7_goes_102 (by decide) (fun c_12 => ?_) (fun c_12 => ?_)
    · replace hw := hw.1 c_12
      exact m_vret X P hr hw dX7_goes_211
    · replace hw := hw.2 c_12
      refine lv_iconst (v := 0) hx hb dX7_goes_105 (by decide) ?_
      refine lv_istore_n (lv' := [(3, .int 0), (0, .ref (ad 0)), (1, .int y1_11), (2, .int y2_11)]) hx hb dX7_goes_106 rfl hl (by decide) rfl (fun ls hl => ?_)
      obtain ⟨n_32, hw⟩ := hw
      refine kwm_goes_L107 X hr _ _ _   ?_ n_32 _ _ _ _ _ _ P (lv_sub hl [1, 2, 3, 0] rfl) hw
      · intro F_30 Ar_31 H locs ls P hl hw
        refine lv_iinc (v := (y2_11 + 1)) (lv' := [(2, .int (y2_11 + 1)), (0, .ref (ad 0)), (1, .int y1_11)]) hx hb dX7_goes_205 hl (k := 2) rfl rfl (by decide) rfl (fun ls hl => ?_)
        refine lv_goto (tgt := 99) hx hb dX7_goes_208 (by decide) ?_
        exact hKh99_11 _ _ _ _ _ _ P (lv_sub hl [1, 2, 0] rfl) hw
def wm_goes (F : tF) (Ar : tA) (a1 : Int32) (Q : tF → tA → Prop) : Prop :=
  (∃ n2, wm_goes_L2 F a1 (fun (Ar_9 : tA) => ∀ F_10 : tF, F_10 = upd F 44 0 → (∃ n99, wm_goes_L99 a1 Q n99 F_10 Ar_9 0)) Q n2 Ar 0)
set_option maxHeartbeats 4000000 in
theorem twm_goes (l : Launch) (D : va_G) (cl : List vw_C) (ci : Nat) (dA dL : ClassId) (ad : Nat → Nat) (F : tF) (Ar : tA) (a1 : Int32) (Q : tF → tA → Prop) (hw : wm_goes F Ar a1 Q) : Met l yX7_goes (ws_ yX7_goes cX7_goes 6 none) ({ frames := 2, cells := 0, slots := 0, locals := 48 }) (mPc D cl ci dA dL ad F Ar [.int a1]) (mQv D cl ci dA dL ad Q) 0 0 (mReg ad) := by
  refine m_entry (by decide) rfl (Nat.le_of_ble_eq_true rfl) ?_
  intro p e s m below meth c ls X hr P hl
  obtain ⟨hx, hb, hml, hown, hts, -, -, hlk⟩ := id X
  have S : CallFix p m c _ _ s _ lw_all RX7 := ⟨hx, hb, hml, hown, hts⟩
  have hl : lv_has ls 6 [(0, .ref (ad 0)), (1, .int a1)] := hl
  refine lv_iconst (v := 0) hx hb dX7_goes_0 (by decide) ?_
  refine lv_istore_n (lv' := [(2, .int 0), (0, .ref (ad 0)), (1, .int a1)]) hx hb dX7_goes_1 rfl hl (by decide) rfl (fun ls hl => ?_)
  obtain ⟨n_34, hw⟩ := hw
  refine kwm_goes_L2 X hr _ _ _   ?_ n_34 _ _ _ _ _ P (lv_sub hl [1, 2, 0] rfl) hw
  · intro Ar_9 H locs ls P hl hw
    refine lv_aload_n hx hb dX7_goes_92 rfl (lv_at hl 0 rfl) ?_
    refine lv_iconst (v := 0) hx hb dX7_goes_93 (by decide) ?_
    refine mp_passMany X P dX7_goes_94 (fun F_10 H locs eF_10 P => ?_)
    replace hw := hw F_10 eF_10
    refine lv_iconst (v := 0) hx hb dX7_goes_97 (by decide) ?_
    refine lv_istore_n (lv' := [(2, .int 0), (0, .ref (ad 0)), (1, .int a1)]) hx hb dX7_goes_98 rfl hl (by decide) rfl (fun ls hl => ?_)
    obtain ⟨n_33, hw⟩ := hw
    refine kwm_goes_L99 X hr _    n_33 _ _ _ _ _ _ P (lv_sub hl [1, 2, 0] rfl) hw
theorem cwm_goes {Q : tF → tA → Prop} {a1 : Int32} {Z : State → Prop} {H : Heap} {locs : List Loc} {F : tF} {Ar : tA} (X : mCx p s m args meth c cc nL D cl ci dA dL) (P : mP D cl (mReg ad) ci dA dL ad s.heap F Ar H locs) (hw : wm_goes F Ar a1 Q) (hR : 2 + 1 ≤ R.frames ∧ 8 + (6 + 11) + 48 ≤ R.locals) (hls : ls.size = nL) (hst : (rest.map fun v => v.category).sum ≤ 8) (hdg : decode cc pc = .ok (.invokevirtual 254, 3)) (kk : ∀ (F1 : tF) (A1 : tA) (H1 : Heap) (locs1 : List Loc), Q F1 A1 → mP D cl (mReg ad) ci dA dL ad s.heap F1 A1 H1 locs1 → W p l e R s m args below meth c H1 locs1 0 0 Z (F0 m (pc + 3) ls (rest))) : W p l e R s m args below meth c H locs 0 0 Z (F0 m pc ls (.int a1 :: .ref (ad 0) :: rest)) := by
  obtain ⟨hx, hb, hml, hown, hts, hK, hc, hlk⟩ := X
  exact va_callv (m_runV (as := [.int a1]) hx hb hml hown hts hK hc P.1 P.2.1 (twm_goes l D cl ci dA dL ad F Ar a1 Q hw) (cwV 1 hts (lw_V q1606 q1608 qs48 q88 q1609) rfl rfl rfl (by decide +kernel) hR) rfl hls hst hdg ⟨Nat.zero_le _, Nat.zero_le _⟩) P.2.2 (fun q _ h => h) (fun q h => h) (fun u t H1 locs1 ht hvm hp hB _ _ hS => kk u.1 u.2 H1 locs1 hp ⟨by rw [← ht]; exact hB, P.2.1.to (fun k h => mM_dom.mpr (mM_dom.mp h)), hS⟩)
-- lays
def wm_lays_L2 (F : tF) (y1_1 : Int32) (Q : tF → tA → Prop) : Nat → tA → Int32 → Prop
  | 0, _, _ => False
  | f2 + 1, Ar, y2_1 =>
    vp_in y1_1 8 ∧ (((Ar 10 y1_1.toNatClampNeg) ≤ y2_1 → Q F Ar) ∧ (¬ (Ar 10 y1_1.toNatClampNeg) ≤ y2_1 → vp_in ((16 * y1_1) + y2_1) 128 ∧ vp_in y2_1 16 ∧ ∀ Ar_3 : tA, Ar_3 = aset Ar 40 y2_1.toNatClampNeg (Ar 11 ((16 * y1_1) + y2_1).toNatClampNeg) → ((wm_lays_L2 F y1_1 Q f2) Ar_3 (y2_1 + 1))))
set_option maxHeartbeats 4000000 in
theorem kwm_lays_L2 {Q : tF → tA → Prop} (X : mCx p s m args meth c cX7_lays 3 D cl ci dA dL) (hr : meth.sig.returnType = none) (F : tF) (y1_1 : Int32) : ∀ (n : Nat) (Ar : tA) (y2_1 : Int32) (H : Heap) (locs : List Loc) (ls : Array Slot), mP D cl (mReg ad) ci dA dL ad s.heap F Ar H locs → lv_has ls 3 [(0, .ref (ad 0)), (1, .int y1_1), (2, .int y2_1)] → wm_lays_L2 F y1_1 Q n Ar y2_1 → W p l e ({ frames := 0, cells := 0, slots := 0, locals := 0 }) s m args below meth c H locs 0 0 (MQ below (mQv D cl ci dA dL ad Q) args s 0 0 (mReg ad)) (F0 m 2 ls []) := by
  obtain ⟨hx, hb, hml, hown, hts, -, -, hlk⟩ := id X
  have S : CallFix p m c _ _ s args lw_all RX7 := ⟨hx, hb, hml, hown, hts⟩
  intro n
  induction n with
  | zero =>
    intro Ar y2_1 H locs ls P hl hw
    exact hw.elim
  | succ n ih =>
    intro Ar y2_1 H locs ls P hl hw
    have hKh2_1 := ih
    refine lv_iload_n hx hb dX7_lays_2 rfl (lv_at hl 2 rfl) ?_
    refine lv_aload_n hx hb dX7_lays_3 rfl (lv_at hl 0 rfl) ?_
    refine mg_many X P dX7_lays_4 ?_
    refine lv_iload_n hx hb dX7_lays_7 rfl (lv_at hl 1 rfl) ?_
    refine m_iald X P 10 rfl (by decide) hw.1 dX7_lays_8 ?_
    replace hw := hw.2
    refine lv_icmp_ge (tgt := 35) hx hb dX7_lays_9 (by decide) (fun c_2 => ?_) (fun c_2 => ?_)
    · replace hw := hw.1 c_2
      exact m_vret X P hr hw dX7_lays_35
    · replace hw := hw.2 c_2
      refine lv_aload_n hx hb dX7_lays_12 rfl (lv_at hl 0 rfl) ?_
      refine mg_now X P dX7_lays_13 ?_
      refine lv_iload_n hx hb dX7_lays_16 rfl (lv_at hl 2 rfl) ?_
      refine lv_aload_n hx hb dX7_lays_17 rfl (lv_at hl 0 rfl) ?_
      refine mg_choice X P dX7_lays_18 ?_
      refine lv_bipush (v := 16) hx hb dX7_lays_21 (by decide) ?_
      refine lv_iload_n hx hb dX7_lays_23 rfl (lv_at hl 1 rfl) ?_
      refine lv_imul hx hb dX7_lays_24 ?_
      refine lv_iload_n hx hb dX7_lays_25 rfl (lv_at hl 2 rfl) ?_
      refine lv_iadd hx hb dX7_lays_26 ?_
      refine m_iald X P 11 rfl (by decide) hw.1 dX7_lays_27 ?_
      replace hw := hw.2
      refine m_iast X P 40 rfl (by decide) hw.1 dX7_lays_28 (fun Ar_3 H locs eAr_3 P => ?_)
      replace hw := hw.2
      replace hw := hw Ar_3 eAr_3
      refine lv_iinc (v := (y2_1 + 1)) (lv' := [(2, .int (y2_1 + 1)), (0, .ref (ad 0)), (1, .int y1_1)]) hx hb dX7_lays_29 hl (k := 2) rfl rfl (by decide) rfl (fun ls hl => ?_)
      refine lv_goto (tgt := 2) hx hb dX7_lays_32 (by decide) ?_
      exact hKh2_1 _ _ _ _ _ P (lv_sub hl [1, 2, 0] rfl) hw
def wm_lays (F : tF) (Ar : tA) (a1 : Int32) (Q : tF → tA → Prop) : Prop :=
  (∃ n2, wm_lays_L2 F a1 Q n2 Ar 0)
set_option maxHeartbeats 4000000 in
theorem twm_lays (l : Launch) (D : va_G) (cl : List vw_C) (ci : Nat) (dA dL : ClassId) (ad : Nat → Nat) (F : tF) (Ar : tA) (a1 : Int32) (Q : tF → tA → Prop) (hw : wm_lays F Ar a1 Q) : Met l yX7_lays (ws_ yX7_lays cX7_lays 3 none) ({ frames := 0, cells := 0, slots := 0, locals := 0 }) (mPc D cl ci dA dL ad F Ar [.int a1]) (mQv D cl ci dA dL ad Q) 0 0 (mReg ad) := by
  refine m_entry (by decide) rfl (Nat.le_of_ble_eq_true rfl) ?_
  intro p e s m below meth c ls X hr P hl
  obtain ⟨hx, hb, hml, hown, hts, -, -, hlk⟩ := id X
  have S : CallFix p m c _ _ s _ lw_all RX7 := ⟨hx, hb, hml, hown, hts⟩
  have hl : lv_has ls 3 [(0, .ref (ad 0)), (1, .int a1)] := hl
  refine lv_iconst (v := 0) hx hb dX7_lays_0 (by decide) ?_
  refine lv_istore_n (lv' := [(2, .int 0), (0, .ref (ad 0)), (1, .int a1)]) hx hb dX7_lays_1 rfl hl (by decide) rfl (fun ls hl => ?_)
  obtain ⟨n_4, hw⟩ := hw
  refine kwm_lays_L2 X hr _ _    n_4 _ _ _ _ _ P (lv_sub hl [1, 2, 0] rfl) hw
theorem cwm_lays {Q : tF → tA → Prop} {a1 : Int32} {Z : State → Prop} {H : Heap} {locs : List Loc} {F : tF} {Ar : tA} (X : mCx p s m args meth c cc nL D cl ci dA dL) (P : mP D cl (mReg ad) ci dA dL ad s.heap F Ar H locs) (hw : wm_lays F Ar a1 Q) (hR : 0 + 1 ≤ R.frames ∧ 8 + (3 + 11) + 0 ≤ R.locals) (hls : ls.size = nL) (hst : (rest.map fun v => v.category).sum ≤ 8) (hdg : decode cc pc = .ok (.invokevirtual 251, 3)) (kk : ∀ (F1 : tF) (A1 : tA) (H1 : Heap) (locs1 : List Loc), Q F1 A1 → mP D cl (mReg ad) ci dA dL ad s.heap F1 A1 H1 locs1 → W p l e R s m args below meth c H1 locs1 0 0 Z (F0 m (pc + 3) ls (rest))) : W p l e R s m args below meth c H locs 0 0 Z (F0 m pc ls (.int a1 :: .ref (ad 0) :: rest)) := by
  obtain ⟨hx, hb, hml, hown, hts, hK, hc, hlk⟩ := X
  exact va_callv (m_runV (as := [.int a1]) hx hb hml hown hts hK hc P.1 P.2.1 (twm_lays l D cl ci dA dL ad F Ar a1 Q hw) (cwV 1 hts (lw_V q1602 q1604 qs47 q88 q1605) rfl rfl rfl (by decide +kernel) hR) rfl hls hst hdg ⟨Nat.zero_le _, Nat.zero_le _⟩) P.2.2 (fun q _ h => h) (fun q h => h) (fun u t H1 locs1 ht hvm hp hB _ _ hS => kk u.1 u.2 H1 locs1 hp ⟨by rw [← ht]; exact hB, P.2.1.to (fun k h => mM_dom.mpr (mM_dom.mp h)), hS⟩)
-- lost
def wm_lost (F : tF) (Ar : tA) (a1 : Int32) (a2 : Int32) (Q : Int32 → tF → tA → Prop) : Prop :=
  vp_in a2 16 ∧ ((¬ (Ar 42 a2.toNatClampNeg) = (-1) → wm_names F Ar a1 a2 (fun F_3 Ar_4 => wm_worth F_3 Ar_4 1 (fun r_5 F_6 Ar_7 => wm_held r_5 (fun r_8 => Q r_8 F_6 Ar_7)))) ∧ ((Ar 42 a2.toNatClampNeg) = (-1) → Q 0 F Ar))
set_option maxHeartbeats 4000000 in
theorem twm_lost (l : Launch) (D : va_G) (cl : List vw_C) (ci : Nat) (dA dL : ClassId) (ad : Nat → Nat) (F : tF) (Ar : tA) (a1 : Int32) (a2 : Int32) (Q : Int32 → tF → tA → Prop) (hw : wm_lost F Ar a1 a2 Q) : Met l yX7_lost (ws_ yX7_lost cX7_lost 3 (some .int)) ({ frames := 2, cells := 0, slots := 0, locals := 46 }) (mPc D cl ci dA dL ad F Ar [.int a1, .int a2]) (mQi D cl ci dA dL ad Q) 0 0 (mReg ad) := by
  refine m_entry (by decide) rfl (Nat.le_of_ble_eq_true rfl) ?_
  intro p e s m below meth c ls X hr P hl
  obtain ⟨hx, hb, hml, hown, hts, -, -, hlk⟩ := id X
  have S : CallFix p m c _ _ s _ lw_all RX7 := ⟨hx, hb, hml, hown, hts⟩
  have hl : lv_has ls 3 [(0, .ref (ad 0)), (1, .int a1), (2, .int a2)] := hl
  refine lv_aload_n hx hb dX7_lost_0 rfl (lv_at hl 0 rfl) ?_
  refine mg_passed X P dX7_lost_1 ?_
  refine lv_iload_n hx hb dX7_lost_4 rfl (lv_at hl 2 rfl) ?_
  refine m_iald X P 42 rfl (by decide) hw.1 dX7_lost_5 ?_
  replace hw := hw.2
  refine lv_iconst (v := (-1)) hx hb dX7_lost_6 (by decide) ?_
  refine lv_icmp_ne (tgt := 12) hx hb dX7_lost_7 (by decide) (fun c_1 => ?_) (fun c_1 => ?_)
  · replace hw := hw.1 c_1
    refine lv_aload_n hx hb dX7_lost_12 rfl (lv_at hl 0 rfl) ?_
    refine lv_iload_n hx hb dX7_lost_13 rfl (lv_at hl 1 rfl) ?_
    refine lv_iload_n hx hb dX7_lost_14 rfl (lv_at hl 2 rfl) ?_
    refine cwm_names X P hw ⟨Nat.le_of_ble_eq_true rfl, Nat.le_of_ble_eq_true rfl⟩ hl.1 (Nat.le_of_ble_eq_true rfl) dX7_lost_15 (fun F_3 Ar_4 H locs hw P => ?_)
    refine lv_aload_n hx hb dX7_lost_18 rfl (lv_at hl 0 rfl) ?_
    refine lv_iconst (v := 1) hx hb dX7_lost_19 (by decide) ?_
    refine cwm_worth X P hw ⟨Nat.le_of_ble_eq_true rfl, Nat.le_of_ble_eq_true rfl⟩ hl.1 (Nat.le_of_ble_eq_true rfl) dX7_lost_20 (fun r_5 F_6 Ar_7 H locs hw P => ?_)
    refine cwm_held S hw ⟨Nat.le_of_ble_eq_true rfl, Nat.le_of_ble_eq_true rfl⟩ hl.1 (Nat.le_of_ble_eq_true rfl) dX7_lost_23 (fun r_8 hw => ?_)
    exact m_iret X P hr hw dX7_lost_26
  · replace hw := hw.2 c_1
    refine lv_iconst (v := 0) hx hb dX7_lost_10 (by decide) ?_
    exact m_iret X P hr hw dX7_lost_11
theorem cwm_lost {Q : Int32 → tF → tA → Prop} {a1 : Int32} {a2 : Int32} {Z : State → Prop} {H : Heap} {locs : List Loc} {F : tF} {Ar : tA} (X : mCx p s m args meth c cc nL D cl ci dA dL) (P : mP D cl (mReg ad) ci dA dL ad s.heap F Ar H locs) (hw : wm_lost F Ar a1 a2 Q) (hR : 2 + 1 ≤ R.frames ∧ 8 + (3 + 11) + 46 ≤ R.locals) (hls : ls.size = nL) (hst : (rest.map fun v => v.category).sum ≤ 8) (hdg : decode cc pc = .ok (.invokevirtual 261, 3)) (kk : ∀ (r : Int32) (F1 : tF) (A1 : tA) (H1 : Heap) (locs1 : List Loc), Q r F1 A1 → mP D cl (mReg ad) ci dA dL ad s.heap F1 A1 H1 locs1 → W p l e R s m args below meth c H1 locs1 0 0 Z (F0 m (pc + 3) ls (.int r :: rest))) : W p l e R s m args below meth c H locs 0 0 Z (F0 m pc ls (.int a2 :: .int a1 :: .ref (ad 0) :: rest)) := by
  obtain ⟨hx, hb, hml, hown, hts, hK, hc, hlk⟩ := X
  exact va_calli (m_runV (as := [.int a1, .int a2]) hx hb hml hown hts hK hc P.1 P.2.1 (twm_lost l D cl ci dA dL ad F Ar a1 a2 Q hw) (cwV 2 hts (lw_V q1640 q1642 qs55 q88 q1643) rfl rfl rfl (by decide +kernel) hR) rfl hls hst hdg ⟨Nat.zero_le _, Nat.zero_le _⟩) P.2.2 (fun q _ h => h) (fun q h => h) (fun r u t H1 locs1 ht hvm hp hB _ _ hS => kk r u.1 u.2 H1 locs1 hp ⟨by rw [← ht]; exact hB, P.2.1.to (fun k h => mM_dom.mpr (mM_dom.mp h)), hS⟩)
-- of
def wm_of (F : tF) (Ar : tA) (a1 : Int32) (a2 : Int32) (a3 : Int32) (Q : Int32 → tF → tA → Prop) : Prop :=
  wm_isOf F Ar a1 a2 (fun r_1 => ((¬ r_1 = 0 → wm_lays F Ar a1 (fun F_4 Ar_5 => wm_goes F_4 Ar_5 a1 (fun F_7 Ar_8 => ((a3 = 0 → vp_in a2 16 ∧ Q (Ar_8 41 a2.toNatClampNeg) F_7 Ar_8) ∧ (¬ a3 = 0 → ((a3 = 1 → vp_in a2 16 ∧ Q (Ar_8 42 a2.toNatClampNeg) F_7 Ar_8) ∧ (¬ a3 = 1 → ((a3 = 2 → wm_cost F_7 Ar_8 a1 a2 (fun r_12 F_13 Ar_14 => Q r_12 F_13 Ar_14)) ∧ (¬ a3 = 2 → ((a3 = 3 → wm_paid F_7 Ar_8 a1 a2 (fun r_16 => Q r_16 F_7 Ar_8)) ∧ (¬ a3 = 3 → ((a3 = 4 → wm_lost F_7 Ar_8 a1 a2 (fun r_18 F_19 Ar_20 => Q r_18 F_19 Ar_20)) ∧ (¬ a3 = 4 → Q (-10001) F_7 Ar_8))))))))))))) ∧ (r_1 = 0 → Q (-10000) F Ar)))
set_option maxHeartbeats 4000000 in
theorem twm_of (l : Launch) (D : va_G) (cl : List vw_C) (ci : Nat) (dA dL : ClassId) (ad : Nat → Nat) (F : tF) (Ar : tA) (a1 : Int32) (a2 : Int32) (a3 : Int32) (Q : Int32 → tF → tA → Prop) (hw : wm_of F Ar a1 a2 a3 Q) : Met l yX7_of (ws_ yX7_of cX7_of 4 (some .int)) ({ frames := 3, cells := 0, slots := 0, locals := 73 }) (mPc D cl ci dA dL ad F Ar [.int a1, .int a2, .int a3]) (mQi D cl ci dA dL ad Q) 0 0 (mReg ad) := by
  refine m_entry (by decide) rfl (Nat.le_of_ble_eq_true rfl) ?_
  intro p e s m below meth c ls X hr P hl
  obtain ⟨hx, hb, hml, hown, hts, -, -, hlk⟩ := id X
  have S : CallFix p m c _ _ s _ lw_all RX7 := ⟨hx, hb, hml, hown, hts⟩
  have hl : lv_has ls 4 [(0, .ref (ad 0)), (1, .int a1), (2, .int a2), (3, .int a3)] := hl
  refine lv_aload_n hx hb dX7_of_0 rfl (lv_at hl 0 rfl) ?_
  refine lv_iload_n hx hb dX7_of_1 rfl (lv_at hl 1 rfl) ?_
  refine lv_iload_n hx hb dX7_of_2 rfl (lv_at hl 2 rfl) ?_
  refine cwm_isOf X P hw ⟨Nat.le_of_ble_eq_true rfl, Nat.le_of_ble_eq_true rfl⟩ hl.1 (Nat.le_of_ble_eq_true rfl) dX7_of_3 (fun r_1 hw => ?_)
  refine lv_if_ne (tgt := 13) hx hb dX7_of_6 (by decide) (fun c_2 => ?_) (fun c_2 => ?_)
  · replace hw := hw.1 c_2
    refine lv_aload_n hx hb dX7_of_13 rfl (lv_at hl 0 rfl) ?_
    refine lv_iload_n hx hb dX7_of_14 rfl (lv_at hl 1 rfl) ?_
    refine cwm_lays X P hw ⟨Nat.le_of_ble_eq_true rfl, Nat.le_of_ble_eq_true rfl⟩ hl.1 (Nat.le_of_ble_eq_true rfl) dX7_of_15 (fun F_4 Ar_5 H locs hw P => ?_)
    refine lv_aload_n hx hb dX7_of_18 rfl (lv_at hl 0 rfl) ?_
    refine lv_iload_n hx hb dX7_of_19 rfl (lv_at hl 1 rfl) ?_
    refine cwm_goes X P hw ⟨Nat.le_of_ble_eq_true rfl, Nat.le_of_ble_eq_true rfl⟩ hl.1 (Nat.le_of_ble_eq_true rfl) dX7_of_20 (fun F_7 Ar_8 H locs hw P => ?_)
    refine lv_iload_n hx hb dX7_of_23 rfl (lv_at hl 3 rfl) ?_
    by_cases c_9 : a3 = 0
    · replace hw := hw.1 c_9
      refine ts_in (off := 36) (tgt := 60) hx hb dX7_of_24 0 c_9 (by decide) (by decide) ?_
      refine lv_aload_n hx hb dX7_of_60 rfl (lv_at hl 0 rfl) ?_
      refine mg_came X P dX7_of_61 ?_
      refine lv_iload_n hx hb dX7_of_64 rfl (lv_at hl 2 rfl) ?_
      refine m_iald X P 41 rfl (by decide) hw.1 dX7_of_65 ?_
      replace hw := hw.2
      exact m_iret X P hr hw dX7_of_66
    · replace hw := hw.2 c_9
      by_cases c_10 : a3 = 1
      · replace hw := hw.1 c_10
        refine ts_in (off := 43) (tgt := 67) hx hb dX7_of_24 1 c_10 (by decide) (by decide) ?_
        refine lv_aload_n hx hb dX7_of_67 rfl (lv_at hl 0 rfl) ?_
        refine mg_passed X P dX7_of_68 ?_
        refine lv_iload_n hx hb dX7_of_71 rfl (lv_at hl 2 rfl) ?_
        refine m_iald X P 42 rfl (by decide) hw.1 dX7_of_72 ?_
        replace hw := hw.2
        exact m_iret X P hr hw dX7_of_73
      · replace hw := hw.2 c_10
        by_cases c_11 : a3 = 2
        · replace hw := hw.1 c_11
          refine ts_in (off := 50) (tgt := 74) hx hb dX7_of_24 2 c_11 (by decide) (by decide) ?_
          refine lv_aload_n hx hb dX7_of_74 rfl (lv_at hl 0 rfl) ?_
          refine lv_iload_n hx hb dX7_of_75 rfl (lv_at hl 1 rfl) ?_
          refine lv_iload_n hx hb dX7_of_76 rfl (lv_at hl 2 rfl) ?_
          refine cwm_cost X P hw ⟨Nat.le_of_ble_eq_true rfl, Nat.le_of_ble_eq_true rfl⟩ hl.1 (Nat.le_of_ble_eq_true rfl) dX7_of_77 (fun r_12 F_13 Ar_14 H locs hw P => ?_)
          exact m_iret X P hr hw dX7_of_80
        · replace hw := hw.2 c_11
          by_cases c_15 : a3 = 3
          · replace hw := hw.1 c_15
            refine ts_in (off := 57) (tgt := 81) hx hb dX7_of_24 3 c_15 (by decide) (by decide) ?_
            refine lv_aload_n hx hb dX7_of_81 rfl (lv_at hl 0 rfl) ?_
            refine lv_iload_n hx hb dX7_of_82 rfl (lv_at hl 1 rfl) ?_
            refine lv_iload_n hx hb dX7_of_83 rfl (lv_at hl 2 rfl) ?_
            refine cwm_paid X P hw ⟨Nat.le_of_ble_eq_true rfl, Nat.le_of_ble_eq_true rfl⟩ hl.1 (Nat.le_of_ble_eq_true rfl) dX7_of_84 (fun r_16 hw => ?_)
            exact m_iret X P hr hw dX7_of_87
          · replace hw := hw.2 c_15
            by_cases c_17 : a3 = 4
            · replace hw := hw.1 c_17
              refine ts_in (off := 64) (tgt := 88) hx hb dX7_of_24 4 c_17 (by decide) (by decide) ?_
              refine lv_aload_n hx hb dX7_of_88 rfl (lv_at hl 0 rfl) ?_
              refine lv_iload_n hx hb dX7_of_89 rfl (lv_at hl 1 rfl) ?_
              refine lv_iload_n hx hb dX7_of_90 rfl (lv_at hl 2 rfl) ?_
              refine cwm_lost X P hw ⟨Nat.le_of_ble_eq_true rfl, Nat.le_of_ble_eq_true rfl⟩ hl.1 (Nat.le_of_ble_eq_true rfl) dX7_of_91 (fun r_18 F_19 Ar_20 H locs hw P => ?_)
              exact m_iret X P hr hw dX7_of_94
            · replace hw := hw.2 c_17
              refine lv_tableOut (tgt := 95) hx hb dX7_of_24 (by have z0 : a3.toInt ≠ 0 := i32_ne c_9; have z1 : a3.toInt ≠ 1 := i32_ne c_10; have z2 : a3.toInt ≠ 2 := i32_ne c_11; have z3 : a3.toInt ≠ 3 := i32_ne c_15; have z4 : a3.toInt ≠ 4 := i32_ne c_17; omega) (by decide) ?_
              refine lv_sipush (v := (-10001)) hx hb dX7_of_95 (by decide) ?_
              exact m_iret X P hr hw dX7_of_98
  · replace hw := hw.2 c_2
    refine lv_sipush (v := (-10000)) hx hb dX7_of_9 (by decide) ?_
    exact m_iret X P hr hw dX7_of_12
-- line
def wm_line_J135 (F : tF) (Ar : tA) (y1_18 : Int32) (y2_18 : Int32) (y3_18 : Int32) (y5_18 : Int32) (z0_18 : Int32) (z1_18 : Int32) (Kh35_11 : Int32 → Int32 → Prop) (Q : Int32 → tF → tA → Prop) : Prop :=
  ∀ x4_19 : Int32, x4_19 = (z1_18 + z0_18) → (Kh35_11 x4_19 (y5_18 + 1))
set_option maxHeartbeats 4000000 in
theorem kwm_line_J135 {Q : Int32 → tF → tA → Prop} (X : mCx p s m args meth c cX7_line 7 D cl ci dA dL) (hr : meth.sig.returnType = (some .int)) {F : tF} {Ar : tA} (y1_18 : Int32) (y2_18 : Int32) (y3_18 : Int32) (y5_18 : Int32) (z0_18 : Int32) (z1_18 : Int32) (Kh35_11 : Int32 → Int32 → Prop) {H : Heap} {locs : List Loc} {ls : Array Slot} (P : mP D cl (mReg ad) ci dA dL ad s.heap F Ar H locs) (hl : lv_has ls 7 [(0, .ref (ad 0)), (1, .int y1_18), (2, .int y2_18), (3, .int y3_18), (5, .int y5_18)]) (hw : wm_line_J135 F Ar y1_18 y2_18 y3_18 y5_18 z0_18 z1_18 Kh35_11 Q) (hKh35_11 : ∀ (w4_ : Int32) (w5_ : Int32) (H : Heap) (locs : List Loc) (ls : Array Slot), mP D cl (mReg ad) ci dA dL ad s.heap F Ar H locs → lv_has ls 7 [(0, .ref (ad 0)), (1, .int y1_18), (2, .int y2_18), (3, .int y3_18), (4, .int w4_), (5, .int w5_)] → Kh35_11 w4_ w5_ → W p l e ({ frames := 3, cells := 0, slots := 0, locals := 73 }) s m args below meth c H locs 0 0 (MQ below (mQi D cl ci dA dL ad Q) args s 0 0 (mReg ad)) (F0 m 35 ls [])) : W p l e ({ frames := 3, cells := 0, slots := 0, locals := 73 }) s m args below meth c H locs 0 0 (MQ below (mQi D cl ci dA dL ad Q) args s 0 0 (mReg ad)) (F0 m 135 ls [.int z0_18, .int z1_18]) := by
  obtain ⟨hx, hb, hml, hown, hts, -, -, hlk⟩ := id X
  have S : CallFix p m c _ _ s args lw_all RX7 := ⟨hx, hb, hml, hown, hts⟩
  refine lv_iadd hx hb dX7_line_135 ?_
  refine lv_topi (fun x4_19 ex4_19 => ?_)
  replace hw := hw x4_19 ex4_19
  refine lv_istore (lv' := [(4, .int x4_19), (0, .ref (ad 0)), (1, .int y1_18), (2, .int y2_18), (3, .int y3_18), (5, .int y5_18)]) hx hb dX7_line_136 hl (by decide) rfl (fun ls hl => ?_)
  refine lv_iinc (v := (y5_18 + 1)) (lv' := [(5, .int (y5_18 + 1)), (4, .int x4_19), (0, .ref (ad 0)), (1, .int y1_18), (2, .int y2_18), (3, .int y3_18)]) hx hb dX7_line_138 hl (k := 5) rfl rfl (by decide) rfl (fun ls hl => ?_)
  refine lv_goto (tgt := 35) hx hb dX7_line_141 (by decide) ?_
  exact hKh35_11 _ _ _ _ _ P (lv_sub hl [2, 3, 4, 5, 1, 0] rfl) hw
def wm_line_J134 (F : tF) (Ar : tA) (y1_17 : Int32) (y2_17 : Int32) (y3_17 : Int32) (y5_17 : Int32) (z0_17 : Int32) (Kh35_11 : Int32 → Int32 → Prop) (Q : Int32 → tF → tA → Prop) : Prop :=
  (wm_line_J135 F Ar y1_17 y2_17 y3_17 y5_17 0 z0_17 Kh35_11 Q)
set_option maxHeartbeats 4000000 in
theorem kwm_line_J134 {Q : Int32 → tF → tA → Prop} (X : mCx p s m args meth c cX7_line 7 D cl ci dA dL) (hr : meth.sig.returnType = (some .int)) {F : tF} {Ar : tA} (y1_17 : Int32) (y2_17 : Int32) (y3_17 : Int32) (y5_17 : Int32) (z0_17 : Int32) (Kh35_11 : Int32 → Int32 → Prop) {H : Heap} {locs : List Loc} {ls : Array Slot} (P : mP D cl (mReg ad) ci dA dL ad s.heap F Ar H locs) (hl : lv_has ls 7 [(0, .ref (ad 0)), (1, .int y1_17), (2, .int y2_17), (3, .int y3_17), (5, .int y5_17)]) (hw : wm_line_J134 F Ar y1_17 y2_17 y3_17 y5_17 z0_17 Kh35_11 Q) (hKh35_11 : ∀ (w4_ : Int32) (w5_ : Int32) (H : Heap) (locs : List Loc) (ls : Array Slot), mP D cl (mReg ad) ci dA dL ad s.heap F Ar H locs → lv_has ls 7 [(0, .ref (ad 0)), (1, .int y1_17), (2, .int y2_17), (3, .int y3_17), (4, .int w4_), (5, .int w5_)] → Kh35_11 w4_ w5_ → W p l e ({ frames := 3, cells := 0, slots := 0, locals := 73 }) s m args below meth c H locs 0 0 (MQ below (mQi D cl ci dA dL ad Q) args s 0 0 (mReg ad)) (F0 m 35 ls [])) : W p l e ({ frames := 3, cells := 0, slots := 0, locals := 73 }) s m args below meth c H locs 0 0 (MQ below (mQi D cl ci dA dL ad Q) args s 0 0 (mReg ad)) (F0 m 134 ls [.int z0_17]) := by
  obtain ⟨hx, hb, hml, hown, hts, -, -, hlk⟩ := id X
  have S : CallFix p m c _ _ s args lw_all RX7 := ⟨hx, hb, hml, hown, hts⟩
  refine lv_iconst (v := 0) hx hb dX7_line_134 (by decide) ?_
  exact kwm_line_J135 X hr _ _ _ _ _ _ _ P (lv_sub hl [0, 1, 2, 3, 4] rfl) hw hKh35_11
def wm_line_J130 (F : tF) (Ar : tA) (y1_21 : Int32) (y2_21 : Int32) (y3_21 : Int32) (y5_21 : Int32) (z0_21 : Int32) (Kh35_11 : Int32 → Int32 → Prop) (Q : Int32 → tF → tA → Prop) : Prop :=
  (wm_line_J135 F Ar y1_21 y2_21 y3_21 y5_21 1 z0_21 Kh35_11 Q)
set_option maxHeartbeats 4000000 in
theorem kwm_line_J130 {Q : Int32 → tF → tA → Prop} (X : mCx p s m args meth c cX7_line 7 D cl ci dA dL) (hr : meth.sig.returnType = (some .int)) {F : tF} {Ar : tA} (y1_21 : Int32) (y2_21 : Int32) (y3_21 : Int32) (y5_21 : Int32) (z0_21 : Int32) (Kh35_11 : Int32 → Int32 → Prop) {H : Heap} {locs : List Loc} {ls : Array Slot} (P : mP D cl (mReg ad) ci dA dL ad s.heap F Ar H locs) (hl : lv_has ls 7 [(0, .ref (ad 0)), (1, .int y1_21), (2, .int y2_21), (3, .int y3_21), (5, .int y5_21)]) (hw : wm_line_J130 F Ar y1_21 y2_21 y3_21 y5_21 z0_21 Kh35_11 Q) (hKh35_11 : ∀ (w4_ : Int32) (w5_ : Int32) (H : Heap) (locs : List Loc) (ls : Array Slot), mP D cl (mReg ad) ci dA dL ad s.heap F Ar H locs → lv_has ls 7 [(0, .ref (ad 0)), (1, .int y1_21), (2, .int y2_21), (3, .int y3_21), (4, .int w4_), (5, .int w5_)] → Kh35_11 w4_ w5_ → W p l e ({ frames := 3, cells := 0, slots := 0, locals := 73 }) s m args below meth c H locs 0 0 (MQ below (mQi D cl ci dA dL ad Q) args s 0 0 (mReg ad)) (F0 m 35 ls [])) : W p l e ({ frames := 3, cells := 0, slots := 0, locals := 73 }) s m args below meth c H locs 0 0 (MQ below (mQi D cl ci dA dL ad Q) args s 0 0 (mReg ad)) (F0 m 130 ls [.int z0_21]) := by
  obtain ⟨hx, hb, hml, hown, hts, -, -, hlk⟩ := id X
  have S : CallFix p m c _ _ s args lw_all RX7 := ⟨hx, hb, hml, hown, hts⟩
  refine lv_iconst (v := 1) hx hb dX7_line_130 (by decide) ?_
  refine lv_goto (tgt := 135) hx hb dX7_line_131 (by decide) ?_
  exact kwm_line_J135 X hr _ _ _ _ _ _ _ P (lv_sub hl [0, 1, 2, 3, 4] rfl) hw hKh35_11
def wm_line_J99 (F : tF) (Ar : tA) (y1_15 : Int32) (y2_15 : Int32) (y3_15 : Int32) (y4_15 : Int32) (y5_15 : Int32) (z0_15 : Int32) (Kh35_11 : Int32 → Int32 → Prop) (Q : Int32 → tF → tA → Prop) : Prop :=
  ((z0_15 = 0 → (wm_line_J134 F Ar y1_15 y2_15 y3_15 y5_15 y4_15 Kh35_11 Q)) ∧ (¬ z0_15 = 0 → vp_in y5_15 16 ∧ (((Ar 42 y5_15.toNatClampNeg) = (-1) → (wm_line_J130 F Ar y1_15 y2_15 y3_15 y5_15 y4_15 Kh35_11 Q)) ∧ (¬ (Ar 42 y5_15.toNatClampNeg) = (-1) → vp_in y5_15 16 ∧ (((Ar 42 y5_15.toNatClampNeg) ≤ y3_15 → (wm_line_J134 F Ar y1_15 y2_15 y3_15 y5_15 y4_15 Kh35_11 Q)) ∧ (¬ (Ar 42 y5_15.toNatClampNeg) ≤ y3_15 → (wm_line_J130 F Ar y1_15 y2_15 y3_15 y5_15 y4_15 Kh35_11 Q)))))))
set_option maxHeartbeats 4000000 in
theorem kwm_line_J99 {Q : Int32 → tF → tA → Prop} (X : mCx p s m args meth c cX7_line 7 D cl ci dA dL) (hr : meth.sig.returnType = (some .int)) {F : tF} {Ar : tA} (y1_15 : Int32) (y2_15 : Int32) (y3_15 : Int32) (y4_15 : Int32) (y5_15 : Int32) (z0_15 : Int32) (Kh35_11 : Int32 → Int32 → Prop) {H : Heap} {locs : List Loc} {ls : Array Slot} (P : mP D cl (mReg ad) ci dA dL ad s.heap F Ar H locs) (hl : lv_has ls 7 [(0, .ref (ad 0)), (1, .int y1_15), (2, .int y2_15), (3, .int y3_15), (4, .int y4_15), (5, .int y5_15)]) (hw : wm_line_J99 F Ar y1_15 y2_15 y3_15 y4_15 y5_15 z0_15 Kh35_11 Q) (hKh35_11 : ∀ (w4_ : Int32) (w5_ : Int32) (H : Heap) (locs : List Loc) (ls : Array Slot), mP D cl (mReg ad) ci dA dL ad s.heap F Ar H locs → lv_has ls 7 [(0, .ref (ad 0)), (1, .int y1_15), (2, .int y2_15), (3, .int y3_15), (4, .int w4_), (5, .int w5_)] → Kh35_11 w4_ w5_ → W p l e ({ frames := 3, cells := 0, slots := 0, locals := 73 }) s m args below meth c H locs 0 0 (MQ below (mQi D cl ci dA dL ad Q) args s 0 0 (mReg ad)) (F0 m 35 ls [])) : W p l e ({ frames := 3, cells := 0, slots := 0, locals := 73 }) s m args below meth c H locs 0 0 (MQ below (mQi D cl ci dA dL ad Q) args s 0 0 (mReg ad)) (F0 m 99 ls [.int z0_15]) := by
  obtain ⟨hx, hb, hml, hown, hts, -, -, hlk⟩ := id X
  have S : CallFix p m c _ _ s args lw_all RX7 := ⟨hx, hb, hml, hown, hts⟩
  refine lv_istore (lv' := [(6, .int z0_15), (0, .ref (ad 0)), (1, .int y1_15), (2, .int y2_15), (3, .int y3_15), (4, .int y4_15), (5, .int y5_15)]) hx hb dX7_line_99 hl (by decide) rfl (fun ls hl => ?_)
  refine lv_iload hx hb dX7_line_101 (lv_at hl 5 rfl) ?_
  refine lv_iload hx hb dX7_line_103 (lv_at hl 0 rfl) ?_
  refine lv_if_eq (tgt := 134) hx hb dX7_line_105 (by decide) (fun c_16 => ?_) (fun c_16 => ?_)
  · replace hw := hw.1 c_16
    exact kwm_line_J134 X hr _ _ _ _ _ _ P (lv_sub hl [1, 2, 3, 4, 6] rfl) hw hKh35_11
  · replace hw := hw.2 c_16
    refine lv_aload_n hx hb dX7_line_108 rfl (lv_at hl 1 rfl) ?_
    refine mg_passed X P dX7_line_109 ?_
    refine lv_iload hx hb dX7_line_112 (lv_at hl 6 rfl) ?_
    refine m_iald X P 42 rfl (by decide) hw.1 dX7_line_114 ?_
    replace hw := hw.2
    refine lv_iconst (v := (-1)) hx hb dX7_line_115 (by decide) ?_
    refine lv_icmp_eq (tgt := 130) hx hb dX7_line_116 (by decide) (fun c_20 => ?_) (fun c_20 => ?_)
    · replace hw := hw.1 c_20
      exact kwm_line_J130 X hr _ _ _ _ _ _ P (lv_sub hl [1, 2, 3, 4, 6] rfl) hw hKh35_11
    · replace hw := hw.2 c_20
      refine lv_aload_n hx hb dX7_line_119 rfl (lv_at hl 1 rfl) ?_
      refine mg_passed X P dX7_line_120 ?_
      refine lv_iload hx hb dX7_line_123 (lv_at hl 6 rfl) ?_
      refine m_iald X P 42 rfl (by decide) hw.1 dX7_line_125 ?_
      replace hw := hw.2
      refine lv_iload_n hx hb dX7_line_126 rfl (lv_at hl 4 rfl) ?_
      refine lv_icmp_le (tgt := 134) hx hb dX7_line_127 (by decide) (fun c_22 => ?_) (fun c_22 => ?_)
      · replace hw := hw.1 c_22
        exact kwm_line_J134 X hr _ _ _ _ _ _ P (lv_sub hl [1, 2, 3, 4, 6] rfl) hw hKh35_11
      · replace hw := hw.2 c_22
        exact kwm_line_J130 X hr _ _ _ _ _ _ P (lv_sub hl [1, 2, 3, 4, 6] rfl) hw hKh35_11
def wm_line_J98 (F : tF) (Ar : tA) (y1_14 : Int32) (y2_14 : Int32) (y3_14 : Int32) (y4_14 : Int32) (y5_14 : Int32) (Kh35_11 : Int32 → Int32 → Prop) (Q : Int32 → tF → tA → Prop) : Prop :=
  (wm_line_J99 F Ar y1_14 y2_14 y3_14 y4_14 y5_14 0 Kh35_11 Q)
set_option maxHeartbeats 4000000 in
theorem kwm_line_J98 {Q : Int32 → tF → tA → Prop} (X : mCx p s m args meth c cX7_line 7 D cl ci dA dL) (hr : meth.sig.returnType = (some .int)) {F : tF} {Ar : tA} (y1_14 : Int32) (y2_14 : Int32) (y3_14 : Int32) (y4_14 : Int32) (y5_14 : Int32) (Kh35_11 : Int32 → Int32 → Prop) {H : Heap} {locs : List Loc} {ls : Array Slot} (P : mP D cl (mReg ad) ci dA dL ad s.heap F Ar H locs) (hl : lv_has ls 7 [(0, .ref (ad 0)), (1, .int y1_14), (2, .int y2_14), (3, .int y3_14), (4, .int y4_14), (5, .int y5_14)]) (hw : wm_line_J98 F Ar y1_14 y2_14 y3_14 y4_14 y5_14 Kh35_11 Q) (hKh35_11 : ∀ (w4_ : Int32) (w5_ : Int32) (H : Heap) (locs : List Loc) (ls : Array Slot), mP D cl (mReg ad) ci dA dL ad s.heap F Ar H locs → lv_has ls 7 [(0, .ref (ad 0)), (1, .int y1_14), (2, .int y2_14), (3, .int y3_14), (4, .int w4_), (5, .int w5_)] → Kh35_11 w4_ w5_ → W p l e ({ frames := 3, cells := 0, slots := 0, locals := 73 }) s m args below meth c H locs 0 0 (MQ below (mQi D cl ci dA dL ad Q) args s 0 0 (mReg ad)) (F0 m 35 ls [])) : W p l e ({ frames := 3, cells := 0, slots := 0, locals := 73 }) s m args below meth c H locs 0 0 (MQ below (mQi D cl ci dA dL ad Q) args s 0 0 (mReg ad)) (F0 m 98 ls []) := by
  obtain ⟨hx, hb, hml, hown, hts, -, -, hlk⟩ := id X
  have S : CallFix p m c _ _ s args lw_all RX7 := ⟨hx, hb, hml, hown, hts⟩
  refine lv_iconst (v := 0) hx hb dX7_line_98 (by decide) ?_
  exact kwm_line_J99 X hr _ _ _ _ _ _ _ P (lv_sub hl [0, 1, 2, 3, 4, 5] rfl) hw hKh35_11
def wm_line_L35 (F : tF) (Ar : tA) (y1_11 : Int32) (y2_11 : Int32) (y3_11 : Int32) (Q : Int32 → tF → tA → Prop) : Nat → Int32 → Int32 → Prop
  | 0, _, _ => False
  | f35 + 1, y4_11, y5_11 =>
    vp_in y1_11 8 ∧ (((Ar 10 y1_11.toNatClampNeg) ≤ y5_11 → Q y4_11 F Ar) ∧ (¬ (Ar 10 y1_11.toNatClampNeg) ≤ y5_11 → vp_in y5_11 16 ∧ (((Ar 40 y5_11.toNatClampNeg) = 48 → (wm_line_J98 F Ar y1_11 y2_11 y3_11 y4_11 y5_11 (wm_line_L35 F Ar y1_11 y2_11 y3_11 Q f35) Q)) ∧ (¬ (Ar 40 y5_11.toNatClampNeg) = 48 → vp_in y5_11 16 ∧ ((¬ ((Ar 40 y5_11.toNatClampNeg) / 24) = y2_11 → (wm_line_J98 F Ar y1_11 y2_11 y3_11 y4_11 y5_11 (wm_line_L35 F Ar y1_11 y2_11 y3_11 Q f35) Q)) ∧ (((Ar 40 y5_11.toNatClampNeg) / 24) = y2_11 → vp_in y5_11 16 ∧ (((Ar 41 y5_11.toNatClampNeg) = (-1) → (wm_line_J98 F Ar y1_11 y2_11 y3_11 y4_11 y5_11 (wm_line_L35 F Ar y1_11 y2_11 y3_11 Q f35) Q)) ∧ (¬ (Ar 41 y5_11.toNatClampNeg) = (-1) → vp_in y5_11 16 ∧ ((y3_11 < (Ar 41 y5_11.toNatClampNeg) → (wm_line_J98 F Ar y1_11 y2_11 y3_11 y4_11 y5_11 (wm_line_L35 F Ar y1_11 y2_11 y3_11 Q f35) Q)) ∧ (¬ y3_11 < (Ar 41 y5_11.toNatClampNeg) → (wm_line_J99 F Ar y1_11 y2_11 y3_11 y4_11 y5_11 1 (wm_line_L35 F Ar y1_11 y2_11 y3_11 Q f35) Q)))))))))))
set_option maxHeartbeats 4000000 in
theorem kwm_line_L35 {Q : Int32 → tF → tA → Prop} (X : mCx p s m args meth c cX7_line 7 D cl ci dA dL) (hr : meth.sig.returnType = (some .int)) (F : tF) (Ar : tA) (y1_11 : Int32) (y2_11 : Int32) (y3_11 : Int32) : ∀ (n : Nat) (y4_11 : Int32) (y5_11 : Int32) (H : Heap) (locs : List Loc) (ls : Array Slot), mP D cl (mReg ad) ci dA dL ad s.heap F Ar H locs → lv_has ls 7 [(0, .ref (ad 0)), (1, .int y1_11), (2, .int y2_11), (3, .int y3_11), (4, .int y4_11), (5, .int y5_11)] → wm_line_L35 F Ar y1_11 y2_11 y3_11 Q n y4_11 y5_11 → W p l e ({ frames := 3, cells := 0, slots := 0, locals := 73 }) s m args below meth c H locs 0 0 (MQ below (mQi D cl ci dA dL ad Q) args s 0 0 (mReg ad)) (F0 m 35 ls []) := by
  obtain ⟨hx, hb, hml, hown, hts, -, -, hlk⟩ := id X
  have S : CallFix p m c _ _ s args lw_all RX7 := ⟨hx, hb, hml, hown, hts⟩
  intro n
  induction n with
  | zero =>
    intro y4_11 y5_11 H locs ls P hl hw
    exact hw.elim
  | succ n ih =>
    intro y4_11 y5_11 H locs ls P hl hw
    have hKh35_11 := ih
    refine lv_iload hx hb dX7_line_35 (lv_at hl 5 rfl) ?_
    refine lv_aload_n hx hb dX7_line_37 rfl (lv_at hl 0 rfl) ?_
    refine mg_many X P dX7_line_38 ?_
    refine lv_iload_n hx hb dX7_line_41 rfl (lv_at hl 1 rfl) ?_
    refine m_iald X P 10 rfl (by decide) hw.1 dX7_line_42 ?_
    replace hw := hw.2
    refine lv_icmp_ge (tgt := 144) hx hb dX7_line_43 (by decide) (fun c_12 => ?_) (fun c_12 => ?_)
    · replace hw := hw.1 c_12
      refine lv_iload hx hb dX7_line_144 (lv_at hl 4 rfl) ?_
      exact m_iret X P hr hw dX7_line_146
    · replace hw := hw.2 c_12
      refine lv_aload_n hx hb dX7_line_46 rfl (lv_at hl 0 rfl) ?_
      refine mg_now X P dX7_line_47 ?_
      refine lv_iload hx hb dX7_line_50 (lv_at hl 5 rfl) ?_
      refine m_iald X P 40 rfl (by decide) hw.1 dX7_line_52 ?_
      replace hw := hw.2
      refine lv_bipush (v := 48) hx hb dX7_line_53 (by decide) ?_
      refine lv_icmp_eq (tgt := 98) hx hb dX7_line_55 (by decide) (fun c_13 => ?_) (fun c_13 => ?_)
      · replace hw := hw.1 c_13
        exact kwm_line_J98 X hr _ _ _ _ _ _ P (lv_sub hl [0, 1, 2, 3, 4, 5] rfl) hw hKh35_11
      · replace hw := hw.2 c_13
        refine lv_aload_n hx hb dX7_line_58 rfl (lv_at hl 0 rfl) ?_
        refine mg_now X P dX7_line_59 ?_
        refine lv_iload hx hb dX7_line_62 (lv_at hl 5 rfl) ?_
        refine m_iald X P 40 rfl (by decide) hw.1 dX7_line_64 ?_
        replace hw := hw.2
        refine lv_bipush (v := 24) hx hb dX7_line_65 (by decide) ?_
        refine lv_idiv hx hb dX7_line_67 (by decide) ?_
        refine lv_iload_n hx hb dX7_line_68 rfl (lv_at hl 2 rfl) ?_
        refine lv_icmp_ne (tgt := 98) hx hb dX7_line_69 (by decide) (fun c_23 => ?_) (fun c_23 => ?_)
        · replace hw := hw.1 c_23
          exact kwm_line_J98 X hr _ _ _ _ _ _ P (lv_sub hl [0, 1, 2, 3, 4, 5] rfl) hw hKh35_11
        · replace hw := hw.2 c_23
          refine lv_aload_n hx hb dX7_line_72 rfl (lv_at hl 0 rfl) ?_
          refine mg_came X P dX7_line_73 ?_
          refine lv_iload hx hb dX7_line_76 (lv_at hl 5 rfl) ?_
          refine m_iald X P 41 rfl (by decide) hw.1 dX7_line_78 ?_
          replace hw := hw.2
          refine lv_iconst (v := (-1)) hx hb dX7_line_79 (by decide) ?_
          refine lv_icmp_eq (tgt := 98) hx hb dX7_line_80 (by decide) (fun c_24 => ?_) (fun c_24 => ?_)
          · replace hw := hw.1 c_24
            exact kwm_line_J98 X hr _ _ _ _ _ _ P (lv_sub hl [0, 1, 2, 3, 4, 5] rfl) hw hKh35_11
          · replace hw := hw.2 c_24
            refine lv_aload_n hx hb dX7_line_83 rfl (lv_at hl 0 rfl) ?_
            refine mg_came X P dX7_line_84 ?_
            refine lv_iload hx hb dX7_line_87 (lv_at hl 5 rfl) ?_
            refine m_iald X P 41 rfl (by decide) hw.1 dX7_line_89 ?_
            replace hw := hw.2
            refine lv_iload_n hx hb dX7_line_90 rfl (lv_at hl 3 rfl) ?_
            refine lv_icmp_gt (tgt := 98) hx hb dX7_line_91 (by decide) (fun c_25 => ?_) (fun c_25 => ?_)
            · replace hw := hw.1 c_25
              exact kwm_line_J98 X hr _ _ _ _ _ _ P (lv_sub hl [0, 1, 2, 3, 4, 5] rfl) hw hKh35_11
            · replace hw := hw.2 c_25
              refine lv_iconst (v := 1) hx hb dX7_line_94 (by decide) ?_
              refine lv_goto (tgt := 99) hx hb dX7_line_95 (by decide) ?_
              exact kwm_line_J99 X hr _ _ _ _ _ _ _ P (lv_sub hl [0, 1, 2, 3, 4, 5] rfl) hw hKh35_11
def wm_line (F : tF) (Ar : tA) (a1 : Int32) (a2 : Int32) (a3 : Int32) (Q : Int32 → tF → tA → Prop) : Prop :=
  wm_isWay F Ar a1 (fun r_1 => ((r_1 = 0 → Q (-5) F Ar) ∧ (¬ r_1 = 0 → wm_isGate a2 a3 (fun r_3 => ((¬ r_3 = 0 → wm_lays F Ar a1 (fun F_6 Ar_7 => wm_goes F_6 Ar_7 a1 (fun F_9 Ar_10 => (∃ n35, wm_line_L35 F_9 Ar_10 a1 a2 a3 Q n35 0 0)))) ∧ (r_3 = 0 → Q (-5) F Ar))))))
set_option maxHeartbeats 4000000 in
theorem twm_line (l : Launch) (D : va_G) (cl : List vw_C) (ci : Nat) (dA dL : ClassId) (ad : Nat → Nat) (F : tF) (Ar : tA) (a1 : Int32) (a2 : Int32) (a3 : Int32) (Q : Int32 → tF → tA → Prop) (hw : wm_line F Ar a1 a2 a3 Q) : Met l yX7_line (ws_ yX7_line cX7_line 7 (some .int)) ({ frames := 3, cells := 0, slots := 0, locals := 73 }) (mPc D cl ci dA dL ad F Ar [.int a1, .int a2, .int a3]) (mQi D cl ci dA dL ad Q) 0 0 (mReg ad) := by
  refine m_entry (by decide) rfl (Nat.le_of_ble_eq_true rfl) ?_
  intro p e s m below meth c ls X hr P hl
  obtain ⟨hx, hb, hml, hown, hts, -, -, hlk⟩ := id X
  have S : CallFix p m c _ _ s _ lw_all RX7 := ⟨hx, hb, hml, hown, hts⟩
  have hl : lv_has ls 7 [(0, .ref (ad 0)), (1, .int a1), (2, .int a2), (3, .int a3)] := hl
  refine lv_aload_n hx hb dX7_line_0 rfl (lv_at hl 0 rfl) ?_
  refine lv_iload_n hx hb dX7_line_1 rfl (lv_at hl 1 rfl) ?_
  refine cwm_isWay X P hw ⟨Nat.le_of_ble_eq_true rfl, Nat.le_of_ble_eq_true rfl⟩ hl.1 (Nat.le_of_ble_eq_true rfl) dX7_line_2 (fun r_1 hw => ?_)
  refine lv_if_eq (tgt := 16) hx hb dX7_line_5 (by decide) (fun c_2 => ?_) (fun c_2 => ?_)
  · replace hw := hw.1 c_2
    refine lv_bipush (v := (-5)) hx hb dX7_line_16 (by decide) ?_
    exact m_iret X P hr hw dX7_line_18
  · replace hw := hw.2 c_2
    refine lv_iload_n hx hb dX7_line_8 rfl (lv_at hl 2 rfl) ?_
    refine lv_iload_n hx hb dX7_line_9 rfl (lv_at hl 3 rfl) ?_
    refine cwm_isGate S hw ⟨Nat.le_of_ble_eq_true rfl, Nat.le_of_ble_eq_true rfl⟩ hl.1 (Nat.le_of_ble_eq_true rfl) dX7_line_10 (fun r_3 hw => ?_)
    refine lv_if_ne (tgt := 19) hx hb dX7_line_13 (by decide) (fun c_4 => ?_) (fun c_4 => ?_)
    · replace hw := hw.1 c_4
      refine lv_aload_n hx hb dX7_line_19 rfl (lv_at hl 0 rfl) ?_
      refine lv_iload_n hx hb dX7_line_20 rfl (lv_at hl 1 rfl) ?_
      refine cwm_lays X P hw ⟨Nat.le_of_ble_eq_true rfl, Nat.le_of_ble_eq_true rfl⟩ hl.1 (Nat.le_of_ble_eq_true rfl) dX7_line_21 (fun F_6 Ar_7 H locs hw P => ?_)
      refine lv_aload_n hx hb dX7_line_24 rfl (lv_at hl 0 rfl) ?_
      refine lv_iload_n hx hb dX7_line_25 rfl (lv_at hl 1 rfl) ?_
      refine cwm_goes X P hw ⟨Nat.le_of_ble_eq_true rfl, Nat.le_of_ble_eq_true rfl⟩ hl.1 (Nat.le_of_ble_eq_true rfl) dX7_line_26 (fun F_9 Ar_10 H locs hw P => ?_)
      refine lv_iconst (v := 0) hx hb dX7_line_29 (by decide) ?_
      refine lv_istore (lv' := [(4, .int 0), (0, .ref (ad 0)), (1, .int a1), (2, .int a2), (3, .int a3)]) hx hb dX7_line_30 hl (by decide) rfl (fun ls hl => ?_)
      refine lv_iconst (v := 0) hx hb dX7_line_32 (by decide) ?_
      refine lv_istore (lv' := [(5, .int 0), (4, .int 0), (0, .ref (ad 0)), (1, .int a1), (2, .int a2), (3, .int a3)]) hx hb dX7_line_33 hl (by decide) rfl (fun ls hl => ?_)
      obtain ⟨n_26, hw⟩ := hw
      refine kwm_line_L35 X hr _ _ _ _ _    n_26 _ _ _ _ _ P (lv_sub hl [2, 3, 4, 5, 1, 0] rfl) hw
    · replace hw := hw.2 c_4
      refine lv_bipush (v := (-5)) hx hb dX7_line_16 (by decide) ?_
      exact m_iret X P hr hw dX7_line_18
-- passes
def wm_passes (F : tF) (Ar : tA) (a1 : Int32) (a2 : Int32) (Q : Int32 → tF → tA → Prop) : Prop :=
  wm_isWay F Ar a1 (fun r_1 => ((¬ r_1 = 0 → wm_lays F Ar a1 (fun F_4 Ar_5 => wm_goes F_4 Ar_5 a1 (fun F_7 Ar_8 => ((¬ a2 = (-1) → wm_in a2 0 ((F_7 44) - 1) (fun r_10 => ((r_10 = 0 → Q (-1) F_7 Ar_8) ∧ (¬ r_10 = 0 → vp_in a2 16 ∧ Q (Ar_8 43 a2.toNatClampNeg) F_7 Ar_8)))) ∧ (a2 = (-1) → Q (F_7 44) F_7 Ar_8))))) ∧ (r_1 = 0 → Q (-5) F Ar)))
set_option maxHeartbeats 4000000 in
theorem twm_passes (l : Launch) (D : va_G) (cl : List vw_C) (ci : Nat) (dA dL : ClassId) (ad : Nat → Nat) (F : tF) (Ar : tA) (a1 : Int32) (a2 : Int32) (Q : Int32 → tF → tA → Prop) (hw : wm_passes F Ar a1 a2 Q) : Met l yX7_passes (ws_ yX7_passes cX7_passes 3 (some .int)) ({ frames := 3, cells := 0, slots := 0, locals := 73 }) (mPc D cl ci dA dL ad F Ar [.int a1, .int a2]) (mQi D cl ci dA dL ad Q) 0 0 (mReg ad) := by
  refine m_entry (by decide) rfl (Nat.le_of_ble_eq_true rfl) ?_
  intro p e s m below meth c ls X hr P hl
  obtain ⟨hx, hb, hml, hown, hts, -, -, hlk⟩ := id X
  have S : CallFix p m c _ _ s _ lw_all RX7 := ⟨hx, hb, hml, hown, hts⟩
  have hl : lv_has ls 3 [(0, .ref (ad 0)), (1, .int a1), (2, .int a2)] := hl
  refine lv_aload_n hx hb dX7_passes_0 rfl (lv_at hl 0 rfl) ?_
  refine lv_iload_n hx hb dX7_passes_1 rfl (lv_at hl 1 rfl) ?_
  refine cwm_isWay X P hw ⟨Nat.le_of_ble_eq_true rfl, Nat.le_of_ble_eq_true rfl⟩ hl.1 (Nat.le_of_ble_eq_true rfl) dX7_passes_2 (fun r_1 hw => ?_)
  refine lv_if_ne (tgt := 11) hx hb dX7_passes_5 (by decide) (fun c_2 => ?_) (fun c_2 => ?_)
  · replace hw := hw.1 c_2
    refine lv_aload_n hx hb dX7_passes_11 rfl (lv_at hl 0 rfl) ?_
    refine lv_iload_n hx hb dX7_passes_12 rfl (lv_at hl 1 rfl) ?_
    refine cwm_lays X P hw ⟨Nat.le_of_ble_eq_true rfl, Nat.le_of_ble_eq_true rfl⟩ hl.1 (Nat.le_of_ble_eq_true rfl) dX7_passes_13 (fun F_4 Ar_5 H locs hw P => ?_)
    refine lv_aload_n hx hb dX7_passes_16 rfl (lv_at hl 0 rfl) ?_
    refine lv_iload_n hx hb dX7_passes_17 rfl (lv_at hl 1 rfl) ?_
    refine cwm_goes X P hw ⟨Nat.le_of_ble_eq_true rfl, Nat.le_of_ble_eq_true rfl⟩ hl.1 (Nat.le_of_ble_eq_true rfl) dX7_passes_18 (fun F_7 Ar_8 H locs hw P => ?_)
    refine lv_iload_n hx hb dX7_passes_21 rfl (lv_at hl 2 rfl) ?_
    refine lv_iconst (v := (-1)) hx hb dX7_passes_22 (by decide) ?_
    refine lv_icmp_ne (tgt := 33) hx hb dX7_passes_23 (by decide) (fun c_9 => ?_) (fun c_9 => ?_)
    · replace hw := hw.1 c_9
      refine lv_iload_n hx hb dX7_passes_33 rfl (lv_at hl 2 rfl) ?_
      refine lv_iconst (v := 0) hx hb dX7_passes_34 (by decide) ?_
      refine lv_aload_n hx hb dX7_passes_35 rfl (lv_at hl 0 rfl) ?_
      refine mg_passMany X P dX7_passes_36 ?_
      refine lv_iconst (v := 1) hx hb dX7_passes_39 (by decide) ?_
      refine lv_isub hx hb dX7_passes_40 ?_
      refine cwm_in S hw ⟨Nat.le_of_ble_eq_true rfl, Nat.le_of_ble_eq_true rfl⟩ hl.1 (Nat.le_of_ble_eq_true rfl) dX7_passes_41 (fun r_10 hw => ?_)
      refine lv_if_eq (tgt := 56) hx hb dX7_passes_44 (by decide) (fun c_11 => ?_) (fun c_11 => ?_)
      · replace hw := hw.1 c_11
        refine lv_iconst (v := (-1)) hx hb dX7_passes_56 (by decide) ?_
        exact m_iret X P hr hw dX7_passes_57
      · replace hw := hw.2 c_11
        refine lv_aload_n hx hb dX7_passes_47 rfl (lv_at hl 0 rfl) ?_
        refine mg_order X P dX7_passes_48 ?_
        refine lv_iload_n hx hb dX7_passes_51 rfl (lv_at hl 2 rfl) ?_
        refine m_iald X P 43 rfl (by decide) hw.1 dX7_passes_52 ?_
        replace hw := hw.2
        refine lv_goto (tgt := 57) hx hb dX7_passes_53 (by decide) ?_
        exact m_iret X P hr hw dX7_passes_57
    · replace hw := hw.2 c_9
      refine lv_aload_n hx hb dX7_passes_26 rfl (lv_at hl 0 rfl) ?_
      refine mg_passMany X P dX7_passes_27 ?_
      refine lv_goto (tgt := 57) hx hb dX7_passes_30 (by decide) ?_
      exact m_iret X P hr hw dX7_passes_57
  · replace hw := hw.2 c_2
    refine lv_bipush (v := (-5)) hx hb dX7_passes_8 (by decide) ?_
    exact m_iret X P hr hw dX7_passes_10
-- costAll
def wm_costAll_L5 (y1_1 : Int32) (Kx33_1 : tF → tA → Int64 → Prop) (Q : Int64 → tF → tA → Prop) : Nat → tF → tA → Int64 → Int32 → Prop
  | 0, _, _, _, _ => False
  | f5 + 1, F, Ar, y2_1, y4_1 =>
    vp_in y1_1 8 ∧ (((Ar 10 y1_1.toNatClampNeg) ≤ y4_1 → (Kx33_1 F Ar y2_1)) ∧ (¬ (Ar 10 y1_1.toNatClampNeg) ≤ y4_1 → wm_cost F Ar y1_1 y4_1 (fun r_3 F_4 Ar_5 => ∀ x2_6 : Int64, x2_6 = (y2_1 + (r_3.toInt64)) → ((wm_costAll_L5 y1_1 Kx33_1 Q f5) F_4 Ar_5 x2_6 (y4_1 + 1)))))
set_option maxHeartbeats 4000000 in
theorem kwm_costAll_L5 {Q : Int64 → tF → tA → Prop} (X : mCx p s m args meth c cX7_costAll 5 D cl ci dA dL) (hr : meth.sig.returnType = (some .long)) (y1_1 : Int32) (Kx33_1 : tF → tA → Int64 → Prop) (hKx33_1 : ∀ (F_ : tF) (Ar_ : tA) (w2_ : Int64) (H : Heap) (locs : List Loc) (ls : Array Slot), mP D cl (mReg ad) ci dA dL ad s.heap F_ Ar_ H locs → lv_has ls 5 [(0, .ref (ad 0)), (2, .long w2_)] → Kx33_1 F_ Ar_ w2_ → W p l e ({ frames := 3, cells := 0, slots := 0, locals := 68 }) s m args below meth c H locs 0 0 (MQ below (mQl D cl ci dA dL ad Q) args s 0 0 (mReg ad)) (F0 m 33 ls [])) : ∀ (n : Nat) (F : tF) (Ar : tA) (y2_1 : Int64) (y4_1 : Int32) (H : Heap) (locs : List Loc) (ls : Array Slot), mP D cl (mReg ad) ci dA dL ad s.heap F Ar H locs → lv_has ls 5 [(0, .ref (ad 0)), (1, .int y1_1), (2, .long y2_1), (4, .int y4_1)] → wm_costAll_L5 y1_1 Kx33_1 Q n F Ar y2_1 y4_1 → W p l e ({ frames := 3, cells := 0, slots := 0, locals := 68 }) s m args below meth c H locs 0 0 (MQ below (mQl D cl ci dA dL ad Q) args s 0 0 (mReg ad)) (F0 m 5 ls []) := by
  obtain ⟨hx, hb, hml, hown, hts, -, -, hlk⟩ := id X
  have S : CallFix p m c _ _ s args lw_all RX7 := ⟨hx, hb, hml, hown, hts⟩
  intro n
  induction n with
  | zero =>
    intro F Ar y2_1 y4_1 H locs ls P hl hw
    exact hw.elim
  | succ n ih =>
    intro F Ar y2_1 y4_1 H locs ls P hl hw
    have hKh5_1 := ih
    refine lv_iload hx hb dX7_costAll_5 (lv_at hl 3 rfl) ?_
    refine lv_aload_n hx hb dX7_costAll_7 rfl (lv_at hl 0 rfl) ?_
    refine mg_many X P dX7_costAll_8 ?_
    refine lv_iload_n hx hb dX7_costAll_11 rfl (lv_at hl 1 rfl) ?_
    refine m_iald X P 10 rfl (by decide) hw.1 dX7_costAll_12 ?_
    replace hw := hw.2
    refine lv_icmp_ge (tgt := 33) hx hb dX7_costAll_13 (by decide) (fun c_2 => ?_) (fun c_2 => ?_)
    · replace hw := hw.1 c_2
      exact hKx33_1 _ _ _ _ _ _ P (lv_sub hl [0, 2] rfl) hw
    · replace hw := hw.2 c_2
      refine lv_lload_n hx hb dX7_costAll_16 rfl (lv_at hl 2 rfl) ?_
      refine lv_aload_n hx hb dX7_costAll_17 rfl (lv_at hl 0 rfl) ?_
      refine lv_iload_n hx hb dX7_costAll_18 rfl (lv_at hl 1 rfl) ?_
      refine lv_iload hx hb dX7_costAll_19 (lv_at hl 3 rfl) ?_
      refine cwm_cost X P hw ⟨Nat.le_of_ble_eq_true rfl, Nat.le_of_ble_eq_true rfl⟩ hl.1 (Nat.le_of_ble_eq_true rfl) dX7_costAll_21 (fun r_3 F_4 Ar_5 H locs hw P => ?_)
      refine lv_i2l hx hb dX7_costAll_24 rfl ?_
      refine lv_ladd hx hb dX7_costAll_25 ?_
      refine lv_topl (fun x2_6 ex2_6 => ?_)
      replace hw := hw x2_6 ex2_6
      refine lv_lstore_n (lv' := [(2, .long x2_6), (0, .ref (ad 0)), (1, .int y1_1), (4, .int y4_1)]) hx hb dX7_costAll_26 rfl hl (by decide) rfl (fun ls hl => ?_)
      refine lv_iinc (v := (y4_1 + 1)) (lv' := [(4, .int (y4_1 + 1)), (2, .long x2_6), (0, .ref (ad 0)), (1, .int y1_1)]) hx hb dX7_costAll_27 hl (k := 3) rfl rfl (by decide) rfl (fun ls hl => ?_)
      refine lv_goto (tgt := 5) hx hb dX7_costAll_30 (by decide) ?_
      exact hKh5_1 _ _ _ _ _ _ _ P (lv_sub hl [2, 3, 1, 0] rfl) hw
def wm_costAll (F : tF) (Ar : tA) (a1 : Int32) (Q : Int64 → tF → tA → Prop) : Prop :=
  (∃ n5, wm_costAll_L5 a1 (fun (F_7 : tF) (Ar_8 : tA) (x2_9 : Int64) => Q x2_9 F_7 Ar_8) Q n5 F Ar 0 0)
set_option maxHeartbeats 4000000 in
theorem twm_costAll (l : Launch) (D : va_G) (cl : List vw_C) (ci : Nat) (dA dL : ClassId) (ad : Nat → Nat) (F : tF) (Ar : tA) (a1 : Int32) (Q : Int64 → tF → tA → Prop) (hw : wm_costAll F Ar a1 Q) : Met l yX7_costAll (ws_ yX7_costAll cX7_costAll 5 (some .long)) ({ frames := 3, cells := 0, slots := 0, locals := 68 }) (mPc D cl ci dA dL ad F Ar [.int a1]) (mQl D cl ci dA dL ad Q) 0 0 (mReg ad) := by
  refine m_entry (by decide) rfl (Nat.le_of_ble_eq_true rfl) ?_
  intro p e s m below meth c ls X hr P hl
  obtain ⟨hx, hb, hml, hown, hts, -, -, hlk⟩ := id X
  have S : CallFix p m c _ _ s _ lw_all RX7 := ⟨hx, hb, hml, hown, hts⟩
  have hl : lv_has ls 5 [(0, .ref (ad 0)), (1, .int a1)] := hl
  refine lv_lconst (v := 0) hx hb dX7_costAll_0 (by decide) ?_
  refine lv_lstore_n (lv' := [(2, .long 0), (0, .ref (ad 0)), (1, .int a1)]) hx hb dX7_costAll_1 rfl hl (by decide) rfl (fun ls hl => ?_)
  refine lv_iconst (v := 0) hx hb dX7_costAll_2 (by decide) ?_
  refine lv_istore (lv' := [(4, .int 0), (2, .long 0), (0, .ref (ad 0)), (1, .int a1)]) hx hb dX7_costAll_3 hl (by decide) rfl (fun ls hl => ?_)
  obtain ⟨n_10, hw⟩ := hw
  refine kwm_costAll_L5 X hr _ _   ?_ n_10 _ _ _ _ _ _ _ P (lv_sub hl [2, 3, 1, 0] rfl) hw
  · intro F_7 Ar_8 x2_9 H locs ls P hl hw
    refine lv_lload_n hx hb dX7_costAll_33 rfl (lv_at hl 1 rfl) ?_
    exact m_lret X P hr hw dX7_costAll_34
theorem cwm_costAll {Q : Int64 → tF → tA → Prop} {a1 : Int32} {Z : State → Prop} {H : Heap} {locs : List Loc} {F : tF} {Ar : tA} (X : mCx p s m args meth c cc nL D cl ci dA dL) (P : mP D cl (mReg ad) ci dA dL ad s.heap F Ar H locs) (hw : wm_costAll F Ar a1 Q) (hR : 3 + 1 ≤ R.frames ∧ 8 + (5 + 11) + 68 ≤ R.locals) (hls : ls.size = nL) (hst : (rest.map fun v => v.category).sum ≤ 8) (hdg : decode cc pc = .ok (.invokevirtual 257, 3)) (kk : ∀ (r : Int64) (F1 : tF) (A1 : tA) (H1 : Heap) (locs1 : List Loc), Q r F1 A1 → mP D cl (mReg ad) ci dA dL ad s.heap F1 A1 H1 locs1 → W p l e R s m args below meth c H1 locs1 0 0 Z (F0 m (pc + 3) ls (.long r :: rest))) : W p l e R s m args below meth c H locs 0 0 Z (F0 m pc ls (.int a1 :: .ref (ad 0) :: rest)) := by
  obtain ⟨hx, hb, hml, hown, hts, hK, hc, hlk⟩ := X
  exact va_calll (m_runV (as := [.int a1]) hx hb hml hown hts hK hc P.1 P.2.1 (twm_costAll l D cl ci dA dL ad F Ar a1 Q hw) (cwV 1 hts (lw_V q1661 q1663 qs57 q88 q1664) rfl rfl rfl (by decide +kernel) hR) rfl hls hst hdg ⟨Nat.zero_le _, Nat.zero_le _⟩) P.2.2 (fun q _ h => h) (fun q h => h) (fun r u t H1 locs1 ht hvm hp hB _ _ hS => kk r u.1 u.2 H1 locs1 hp ⟨by rw [← ht]; exact hB, P.2.1.to (fun k h => mM_dom.mpr (mM_dom.mp h)), hS⟩)
-- costNow
def wm_costNow (F : tF) (Ar : tA) (a1 : Int32) (Q : Int64 → tF → tA → Prop) : Prop :=
  wm_lays F Ar a1 (fun F_2 Ar_3 => wm_goes F_2 Ar_3 a1 (fun F_5 Ar_6 => wm_costAll F_5 Ar_6 a1 (fun r_7 F_8 Ar_9 => Q r_7 F_8 Ar_9)))
set_option maxHeartbeats 4000000 in
theorem twm_costNow (l : Launch) (D : va_G) (cl : List vw_C) (ci : Nat) (dA dL : ClassId) (ad : Nat → Nat) (F : tF) (Ar : tA) (a1 : Int32) (Q : Int64 → tF → tA → Prop) (hw : wm_costNow F Ar a1 Q) : Met l yX7_costNow (ws_ yX7_costNow cX7_costNow 2 (some .long)) ({ frames := 4, cells := 0, slots := 0, locals := 92 }) (mPc D cl ci dA dL ad F Ar [.int a1]) (mQl D cl ci dA dL ad Q) 0 0 (mReg ad) := by
  refine m_entry (by decide) rfl (Nat.le_of_ble_eq_true rfl) ?_
  intro p e s m below meth c ls X hr P hl
  obtain ⟨hx, hb, hml, hown, hts, -, -, hlk⟩ := id X
  have S : CallFix p m c _ _ s _ lw_all RX7 := ⟨hx, hb, hml, hown, hts⟩
  have hl : lv_has ls 2 [(0, .ref (ad 0)), (1, .int a1)] := hl
  refine lv_aload_n hx hb dX7_costNow_0 rfl (lv_at hl 0 rfl) ?_
  refine lv_iload_n hx hb dX7_costNow_1 rfl (lv_at hl 1 rfl) ?_
  refine cwm_lays X P hw ⟨Nat.le_of_ble_eq_true rfl, Nat.le_of_ble_eq_true rfl⟩ hl.1 (Nat.le_of_ble_eq_true rfl) dX7_costNow_2 (fun F_2 Ar_3 H locs hw P => ?_)
  refine lv_aload_n hx hb dX7_costNow_5 rfl (lv_at hl 0 rfl) ?_
  refine lv_iload_n hx hb dX7_costNow_6 rfl (lv_at hl 1 rfl) ?_
  refine cwm_goes X P hw ⟨Nat.le_of_ble_eq_true rfl, Nat.le_of_ble_eq_true rfl⟩ hl.1 (Nat.le_of_ble_eq_true rfl) dX7_costNow_7 (fun F_5 Ar_6 H locs hw P => ?_)
  refine lv_aload_n hx hb dX7_costNow_10 rfl (lv_at hl 0 rfl) ?_
  refine lv_iload_n hx hb dX7_costNow_11 rfl (lv_at hl 1 rfl) ?_
  refine cwm_costAll X P hw ⟨Nat.le_of_ble_eq_true rfl, Nat.le_of_ble_eq_true rfl⟩ hl.1 (Nat.le_of_ble_eq_true rfl) dX7_costNow_12 (fun r_7 F_8 Ar_9 H locs hw P => ?_)
  exact m_lret X P hr hw dX7_costNow_15
theorem cwm_costNow {Q : Int64 → tF → tA → Prop} {a1 : Int32} {Z : State → Prop} {H : Heap} {locs : List Loc} {F : tF} {Ar : tA} (X : mCx p s m args meth c cc nL D cl ci dA dL) (P : mP D cl (mReg ad) ci dA dL ad s.heap F Ar H locs) (hw : wm_costNow F Ar a1 Q) (hR : 4 + 1 ≤ R.frames ∧ 8 + (2 + 11) + 92 ≤ R.locals) (hls : ls.size = nL) (hst : (rest.map fun v => v.category).sum ≤ 8) (hdg : decode cc pc = .ok (.invokevirtual 266, 3)) (kk : ∀ (r : Int64) (F1 : tF) (A1 : tA) (H1 : Heap) (locs1 : List Loc), Q r F1 A1 → mP D cl (mReg ad) ci dA dL ad s.heap F1 A1 H1 locs1 → W p l e R s m args below meth c H1 locs1 0 0 Z (F0 m (pc + 3) ls (.long r :: rest))) : W p l e R s m args below meth c H locs 0 0 Z (F0 m pc ls (.int a1 :: .ref (ad 0) :: rest)) := by
  obtain ⟨hx, hb, hml, hown, hts, hK, hc, hlk⟩ := X
  exact va_calll (m_runV (as := [.int a1]) hx hb hml hown hts hK hc P.1 P.2.1 (twm_costNow l D cl ci dA dL ad F Ar a1 Q hw) (cwV 1 hts (lw_V q1657 q1659 qs56 q88 q1660) rfl rfl rfl (by decide +kernel) hR) rfl hls hst hdg ⟨Nat.zero_le _, Nat.zero_le _⟩) P.2.2 (fun q _ h => h) (fun q h => h) (fun r u t H1 locs1 ht hvm hp hB _ _ hS => kk r u.1 u.2 H1 locs1 hp ⟨by rw [← ht]; exact hB, P.2.1.to (fun k h => mM_dom.mpr (mM_dom.mp h)), hS⟩)
-- sum
def wm_sum_J109 (F : tF) (Ar : tA) (y1_13 : Int32) (y2_13 : Int32) (y3_13 : Int64) (y7_13 : Int32) (z0_13 : Int64) (z1_13 : Int64) (Kh33_8 : tF → tA → Int64 → Int32 → Prop) (Q : Int64 → tF → tA → Prop) : Prop :=
  ∀ x5_14 : Int64, x5_14 = (z1_13 + z0_13) → (Kh33_8 F Ar x5_14 (y7_13 + 1))
set_option maxHeartbeats 4000000 in
theorem kwm_sum_J109 {Q : Int64 → tF → tA → Prop} (X : mCx p s m args meth c cX7_sum 8 D cl ci dA dL) (hr : meth.sig.returnType = (some .long)) {F : tF} {Ar : tA} (y1_13 : Int32) (y2_13 : Int32) (y3_13 : Int64) (y7_13 : Int32) (z0_13 : Int64) (z1_13 : Int64) (Kh33_8 : tF → tA → Int64 → Int32 → Prop) {H : Heap} {locs : List Loc} {ls : Array Slot} (P : mP D cl (mReg ad) ci dA dL ad s.heap F Ar H locs) (hl : lv_has ls 8 [(0, .ref (ad 0)), (1, .int y1_13), (2, .int y2_13), (3, .long y3_13), (7, .int y7_13)]) (hw : wm_sum_J109 F Ar y1_13 y2_13 y3_13 y7_13 z0_13 z1_13 Kh33_8 Q) (hKh33_8 : ∀ (F_ : tF) (Ar_ : tA) (w5_ : Int64) (w7_ : Int32) (H : Heap) (locs : List Loc) (ls : Array Slot), mP D cl (mReg ad) ci dA dL ad s.heap F_ Ar_ H locs → lv_has ls 8 [(0, .ref (ad 0)), (1, .int y1_13), (2, .int y2_13), (3, .long y3_13), (5, .long w5_), (7, .int w7_)] → Kh33_8 F_ Ar_ w5_ w7_ → W p l e ({ frames := 5, cells := 0, slots := 0, locals := 113 }) s m args below meth c H locs 0 0 (MQ below (mQl D cl ci dA dL ad Q) args s 0 0 (mReg ad)) (F0 m 33 ls [])) : W p l e ({ frames := 5, cells := 0, slots := 0, locals := 113 }) s m args below meth c H locs 0 0 (MQ below (mQl D cl ci dA dL ad Q) args s 0 0 (mReg ad)) (F0 m 109 ls [.long z0_13, .long z1_13]) := by
  obtain ⟨hx, hb, hml, hown, hts, -, -, hlk⟩ := id X
  have S : CallFix p m c _ _ s args lw_all RX7 := ⟨hx, hb, hml, hown, hts⟩
  refine lv_ladd hx hb dX7_sum_109 ?_
  refine lv_topl (fun x5_14 ex5_14 => ?_)
  replace hw := hw x5_14 ex5_14
  refine lv_lstore (lv' := [(5, .long x5_14), (0, .ref (ad 0)), (1, .int y1_13), (2, .int y2_13), (3, .long y3_13), (7, .int y7_13)]) hx hb dX7_sum_110 hl (by decide) rfl (fun ls hl => ?_)
  refine lv_iinc (v := (y7_13 + 1)) (lv' := [(7, .int (y7_13 + 1)), (5, .long x5_14), (0, .ref (ad 0)), (1, .int y1_13), (2, .int y2_13), (3, .long y3_13)]) hx hb dX7_sum_112 hl (k := 5) rfl rfl (by decide) rfl (fun ls hl => ?_)
  refine lv_goto (tgt := 33) hx hb dX7_sum_115 (by decide) ?_
  exact hKh33_8 _ _ _ _ _ _ _ P (lv_sub hl [2, 3, 4, 5, 1, 0] rfl) hw
def wm_sum_L33 (y1_8 : Int32) (y2_8 : Int32) (y3_8 : Int64) (Kx118_8 : tF → tA → Int64 → Prop) (Q : Int64 → tF → tA → Prop) : Nat → tF → tA → Int64 → Int32 → Prop
  | 0, _, _, _, _ => False
  | f33 + 1, F, Ar, y5_8, y7_8 =>
    vp_in y1_8 8 ∧ (((Ar 10 y1_8.toNatClampNeg) ≤ y7_8 → (Kx118_8 F Ar y5_8)) ∧ (¬ (Ar 10 y1_8.toNatClampNeg) ≤ y7_8 → ((¬ y2_8 = 1 → ((¬ y2_8 = 2 → vp_in y7_8 16 ∧ ((¬ (Ar 42 y7_8.toNatClampNeg) = (-1) → vp_in y7_8 16 ∧ vp_in y7_8 16 ∧ (wm_sum_J109 F Ar y1_8 y2_8 y3_8 y7_8 (((Ar 42 y7_8.toNatClampNeg) - (Ar 41 y7_8.toNatClampNeg)).toInt64) y5_8 (wm_sum_L33 y1_8 y2_8 y3_8 Kx118_8 Q f33) Q)) ∧ ((Ar 42 y7_8.toNatClampNeg) = (-1) → (wm_sum_J109 F Ar y1_8 y2_8 y3_8 y7_8 0 y5_8 (wm_sum_L33 y1_8 y2_8 y3_8 Kx118_8 Q f33) Q)))) ∧ (y2_8 = 2 → wm_paid F Ar y1_8 y7_8 (fun r_15 => (wm_sum_J109 F Ar y1_8 y2_8 y3_8 y7_8 (r_15.toInt64) y5_8 (wm_sum_L33 y1_8 y2_8 y3_8 Kx118_8 Q f33) Q))))) ∧ (y2_8 = 1 → wm_lost F Ar y1_8 y7_8 (fun r_16 F_17 Ar_18 => (wm_sum_J109 F_17 Ar_18 y1_8 y2_8 y3_8 y7_8 (r_16.toInt64) y5_8 (wm_sum_L33 y1_8 y2_8 y3_8 Kx118_8 Q f33) Q))))))
set_option maxHeartbeats 4000000 in
theorem kwm_sum_L33 {Q : Int64 → tF → tA → Prop} (X : mCx p s m args meth c cX7_sum 8 D cl ci dA dL) (hr : meth.sig.returnType = (some .long)) (y1_8 : Int32) (y2_8 : Int32) (y3_8 : Int64) (Kx118_8 : tF → tA → Int64 → Prop) (hKx118_8 : ∀ (F_ : tF) (Ar_ : tA) (w5_ : Int64) (H : Heap) (locs : List Loc) (ls : Array Slot), mP D cl (mReg ad) ci dA dL ad s.heap F_ Ar_ H locs → lv_has ls 8 [(0, .ref (ad 0)), (2, .int y2_8), (3, .long y3_8), (5, .long w5_)] → Kx118_8 F_ Ar_ w5_ → W p l e ({ frames := 5, cells := 0, slots := 0, locals := 113 }) s m args below meth c H locs 0 0 (MQ below (mQl D cl ci dA dL ad Q) args s 0 0 (mReg ad)) (F0 m 118 ls [])) : ∀ (n : Nat) (F : tF) (Ar : tA) (y5_8 : Int64) (y7_8 : Int32) (H : Heap) (locs : List Loc) (ls : Array Slot), mP D cl (mReg ad) ci dA dL ad s.heap F Ar H locs → lv_has ls 8 [(0, .ref (ad 0)), (1, .int y1_8), (2, .int y2_8), (3, .long y3_8), (5, .long y5_8), (7, .int y7_8)] → wm_sum_L33 y1_8 y2_8 y3_8 Kx118_8 Q n F Ar y5_8 y7_8 → W p l e ({ frames := 5, cells := 0, slots := 0, locals := 113 }) s m args below meth c H locs 0 0 (MQ below (mQl D cl ci dA dL ad Q) args s 0 0 (mReg ad)) (F0 m 33 ls []) := by
  obtain ⟨hx, hb, hml, hown, hts, -, -, hlk⟩ := id X
  have S : CallFix p m c _ _ s args lw_all RX7 := ⟨hx, hb, hml, hown, hts⟩
  intro n
  induction n with
  | zero =>
    intro F Ar y5_8 y7_8 H locs ls P hl hw
    exact hw.elim
  | succ n ih =>
    intro F Ar y5_8 y7_8 H locs ls P hl hw
    have hKh33_8 := ih
    refine lv_iload hx hb dX7_sum_33 (lv_at hl 5 rfl) ?_
    refine lv_aload_n hx hb dX7_sum_35 rfl (lv_at hl 0 rfl) ?_
    refine mg_many X P dX7_sum_36 ?_
    refine lv_iload_n hx hb dX7_sum_39 rfl (lv_at hl 1 rfl) ?_
    refine m_iald X P 10 rfl (by decide) hw.1 dX7_sum_40 ?_
    replace hw := hw.2
    refine lv_icmp_ge (tgt := 118) hx hb dX7_sum_41 (by decide) (fun c_9 => ?_) (fun c_9 => ?_)
    · replace hw := hw.1 c_9
      exact hKx118_8 _ _ _ _ _ _ P (lv_sub hl [0, 2, 3, 4] rfl) hw
    · replace hw := hw.2 c_9
      refine lv_lload hx hb dX7_sum_44 (lv_at hl 4 rfl) ?_
      refine lv_iload_n hx hb dX7_sum_46 rfl (lv_at hl 2 rfl) ?_
      refine lv_iconst (v := 1) hx hb dX7_sum_47 (by decide) ?_
      refine lv_icmp_ne (tgt := 62) hx hb dX7_sum_48 (by decide) (fun c_10 => ?_) (fun c_10 => ?_)
      · replace hw := hw.1 c_10
        refine lv_iload_n hx hb dX7_sum_62 rfl (lv_at hl 2 rfl) ?_
        refine lv_iconst (v := 2) hx hb dX7_sum_63 (by decide) ?_
        refine lv_icmp_ne (tgt := 78) hx hb dX7_sum_64 (by decide) (fun c_11 => ?_) (fun c_11 => ?_)
        · replace hw := hw.1 c_11
          refine lv_aload_n hx hb dX7_sum_78 rfl (lv_at hl 0 rfl) ?_
          refine mg_passed X P dX7_sum_79 ?_
          refine lv_iload hx hb dX7_sum_82 (lv_at hl 5 rfl) ?_
          refine m_iald X P 42 rfl (by decide) hw.1 dX7_sum_84 ?_
          replace hw := hw.2
          refine lv_iconst (v := (-1)) hx hb dX7_sum_85 (by decide) ?_
          refine lv_icmp_ne (tgt := 93) hx hb dX7_sum_86 (by decide) (fun c_12 => ?_) (fun c_12 => ?_)
          · replace hw := hw.1 c_12
            refine lv_aload_n hx hb dX7_sum_93 rfl (lv_at hl 0 rfl) ?_
            refine mg_passed X P dX7_sum_94 ?_
            refine lv_iload hx hb dX7_sum_97 (lv_at hl 5 rfl) ?_
            refine m_iald X P 42 rfl (by decide) hw.1 dX7_sum_99 ?_
            replace hw := hw.2
            refine lv_aload_n hx hb dX7_sum_100 rfl (lv_at hl 0 rfl) ?_
            refine mg_came X P dX7_sum_101 ?_
            refine lv_iload hx hb dX7_sum_104 (lv_at hl 5 rfl) ?_
            refine m_iald X P 41 rfl (by decide) hw.1 dX7_sum_106 ?_
            replace hw := hw.2
            refine lv_isub hx hb dX7_sum_107 ?_
            refine lv_i2l hx hb dX7_sum_108 rfl ?_
            exact kwm_sum_J109 X hr _ _ _ _ _ _ _ P (lv_sub hl [0, 1, 2, 3, 5] rfl) hw hKh33_8
          · replace hw := hw.2 c_12
            refine lv_lconst (v := 0) hx hb dX7_sum_89 (by decide) ?_
            refine lv_goto (tgt := 109) hx hb dX7_sum_90 (by decide) ?_
            exact kwm_sum_J109 X hr _ _ _ _ _ _ _ P (lv_sub hl [0, 1, 2, 3, 5] rfl) hw hKh33_8
        · replace hw := hw.2 c_11
          refine lv_aload_n hx hb dX7_sum_67 rfl (lv_at hl 0 rfl) ?_
          refine lv_iload_n hx hb dX7_sum_68 rfl (lv_at hl 1 rfl) ?_
          refine lv_iload hx hb dX7_sum_69 (lv_at hl 5 rfl) ?_
          refine cwm_paid X P hw ⟨Nat.le_of_ble_eq_true rfl, Nat.le_of_ble_eq_true rfl⟩ hl.1 (Nat.le_of_ble_eq_true rfl) dX7_sum_71 (fun r_15 hw => ?_)
          refine lv_i2l hx hb dX7_sum_74 rfl ?_
          refine lv_goto (tgt := 109) hx hb dX7_sum_75 (by decide) ?_
          exact kwm_sum_J109 X hr _ _ _ _ _ _ _ P (lv_sub hl [0, 1, 2, 3, 5] rfl) hw hKh33_8
      · replace hw := hw.2 c_10
        refine lv_aload_n hx hb dX7_sum_51 rfl (lv_at hl 0 rfl) ?_
        refine lv_iload_n hx hb dX7_sum_52 rfl (lv_at hl 1 rfl) ?_
        refine lv_iload hx hb dX7_sum_53 (lv_at hl 5 rfl) ?_
        refine cwm_lost X P hw ⟨Nat.le_of_ble_eq_true rfl, Nat.le_of_ble_eq_true rfl⟩ hl.1 (Nat.le_of_ble_eq_true rfl) dX7_sum_55 (fun r_16 F_17 Ar_18 H locs hw P => ?_)
        refine lv_i2l hx hb dX7_sum_58 rfl ?_
        refine lv_goto (tgt := 109) hx hb dX7_sum_59 (by decide) ?_
        exact kwm_sum_J109 X hr _ _ _ _ _ _ _ P (lv_sub hl [0, 1, 2, 3, 5] rfl) hw hKh33_8
def wm_sum (F : tF) (Ar : tA) (a1 : Int32) (a2 : Int32) (Q : Int64 → tF → tA → Prop) : Prop :=
  wm_isWay F Ar a1 (fun r_1 => ((r_1 = 0 → Q (-4611686018427387904) F Ar) ∧ (¬ r_1 = 0 → wm_in a2 0 3 (fun r_3 => ((¬ r_3 = 0 → wm_costNow F Ar a1 (fun r_5 F_6 Ar_7 => (∃ n33, wm_sum_L33 a1 a2 r_5 (fun (F_19 : tF) (Ar_20 : tA) (x5_21 : Int64) => ((¬ a2 = 0 → Q x5_21 F_19 Ar_20) ∧ (a2 = 0 → Q r_5 F_19 Ar_20))) Q n33 F_6 Ar_7 0 0))) ∧ (r_3 = 0 → Q (-4611686018427387904) F Ar))))))
set_option maxHeartbeats 4000000 in
theorem twm_sum (l : Launch) (D : va_G) (cl : List vw_C) (ci : Nat) (dA dL : ClassId) (ad : Nat → Nat) (F : tF) (Ar : tA) (a1 : Int32) (a2 : Int32) (Q : Int64 → tF → tA → Prop) (hw : wm_sum F Ar a1 a2 Q) : Met l yX7_sum (ws_ yX7_sum cX7_sum 8 (some .long)) ({ frames := 5, cells := 0, slots := 0, locals := 113 }) (mPc D cl ci dA dL ad F Ar [.int a1, .int a2]) (mQl D cl ci dA dL ad Q) 0 0 (mReg ad) := by
  refine m_entry (by decide) rfl (Nat.le_of_ble_eq_true rfl) ?_
  intro p e s m below meth c ls X hr P hl
  obtain ⟨hx, hb, hml, hown, hts, -, -, hlk⟩ := id X
  have S : CallFix p m c _ _ s _ lw_all RX7 := ⟨hx, hb, hml, hown, hts⟩
  have hl : lv_has ls 8 [(0, .ref (ad 0)), (1, .int a1), (2, .int a2)] := hl
  refine lv_aload_n hx hb dX7_sum_0 rfl (lv_at hl 0 rfl) ?_
  refine lv_iload_n hx hb dX7_sum_1 rfl (lv_at hl 1 rfl) ?_
  refine cwm_isWay X P hw ⟨Nat.le_of_ble_eq_true rfl, Nat.le_of_ble_eq_true rfl⟩ hl.1 (Nat.le_of_ble_eq_true rfl) dX7_sum_2 (fun r_1 hw => ?_)
  refine lv_if_eq (tgt := 17) hx hb dX7_sum_5 (by decide) (fun c_2 => ?_) (fun c_2 => ?_)
  · replace hw := hw.1 c_2
    refine lv_ldc2 (v := (-4611686018427387904)) hx hb hown (hts _ q1656) dX7_sum_17 ?_
    exact m_lret X P hr hw dX7_sum_20
  · replace hw := hw.2 c_2
    refine lv_iload_n hx hb dX7_sum_8 rfl (lv_at hl 2 rfl) ?_
    refine lv_iconst (v := 0) hx hb dX7_sum_9 (by decide) ?_
    refine lv_iconst (v := 3) hx hb dX7_sum_10 (by decide) ?_
    refine cwm_in S hw ⟨Nat.le_of_ble_eq_true rfl, Nat.le_of_ble_eq_true rfl⟩ hl.1 (Nat.le_of_ble_eq_true rfl) dX7_sum_11 (fun r_3 hw => ?_)
    refine lv_if_ne (tgt := 21) hx hb dX7_sum_14 (by decide) (fun c_4 => ?_) (fun c_4 => ?_)
    · replace hw := hw.1 c_4
      refine lv_aload_n hx hb dX7_sum_21 rfl (lv_at hl 0 rfl) ?_
      refine lv_iload_n hx hb dX7_sum_22 rfl (lv_at hl 1 rfl) ?_
      refine cwm_costNow X P hw ⟨Nat.le_of_ble_eq_true rfl, Nat.le_of_ble_eq_true rfl⟩ hl.1 (Nat.le_of_ble_eq_true rfl) dX7_sum_23 (fun r_5 F_6 Ar_7 H locs hw P => ?_)
      refine lv_lstore_n (lv' := [(3, .long r_5), (0, .ref (ad 0)), (1, .int a1), (2, .int a2)]) hx hb dX7_sum_26 rfl hl (by decide) rfl (fun ls hl => ?_)
      refine lv_lconst (v := 0) hx hb dX7_sum_27 (by decide) ?_
      refine lv_lstore (lv' := [(5, .long 0), (3, .long r_5), (0, .ref (ad 0)), (1, .int a1), (2, .int a2)]) hx hb dX7_sum_28 hl (by decide) rfl (fun ls hl => ?_)
      refine lv_iconst (v := 0) hx hb dX7_sum_30 (by decide) ?_
      refine lv_istore (lv' := [(7, .int 0), (5, .long 0), (3, .long r_5), (0, .ref (ad 0)), (1, .int a1), (2, .int a2)]) hx hb dX7_sum_31 hl (by decide) rfl (fun ls hl => ?_)
      obtain ⟨n_23, hw⟩ := hw
      refine kwm_sum_L33 X hr _ _ _ _   ?_ n_23 _ _ _ _ _ _ _ P (lv_sub hl [3, 4, 5, 2, 1, 0] rfl) hw
      · intro F_19 Ar_20 x5_21 H locs ls P hl hw
        refine lv_iload_n hx hb dX7_sum_118 rfl (lv_at hl 1 rfl) ?_
        refine lv_if_ne (tgt := 126) hx hb dX7_sum_119 (by decide) (fun c_22 => ?_) (fun c_22 => ?_)
        · replace hw := hw.1 c_22
          refine lv_lload hx hb dX7_sum_126 (lv_at hl 3 rfl) ?_
          exact m_lret X P hr hw dX7_sum_128
        · replace hw := hw.2 c_22
          refine lv_lload_n hx hb dX7_sum_122 rfl (lv_at hl 2 rfl) ?_
          refine lv_goto (tgt := 128) hx hb dX7_sum_123 (by decide) ?_
          exact m_lret X P hr hw dX7_sum_128
    · replace hw := hw.2 c_4
      refine lv_ldc2 (v := (-4611686018427387904)) hx hb hown (hts _ q1656) dX7_sum_17 ?_
      exact m_lret X P hr hw dX7_sum_20
end MM2
