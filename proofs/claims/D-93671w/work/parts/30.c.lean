/-! by gen/comp.py: methods of the class, with copies and sheets -/
set_option maxRecDepth 100000
section CD
variable {p : Program} {l : Launch} {e : Env} {R : Room} {s : State} {m : MethodId} {args : Array Value} {below : List Frame} {meth : Method} {c : Code}
variable {cc : ByteArray} {nL pc : Nat} {ls : Array Slot} {rest : List Value} {D : va_G} {G ad : Nat → Nat} {Kd : tK} {U : tU} {T : tT} {zz : Int32}
-- shift
def wc_shift_L45 (Kd : tK) (T : tT) (F : tF) (y1_6 : Int32) (y2_6 : Int32) (Kx85_6 : tA → Prop) (Q : Int64 → tF → tA → Prop) : Nat → tA → Int32 → Prop
  | 0, _, _ => False
  | f45 + 1, Ar, y4_6 =>
    (((F 6) ≤ y4_6 → (Kx85_6 Ar)) ∧ (¬ (F 6) ≤ y4_6 → vp_in y4_6 4 ∧ vp_in y4_6 4 ∧ ∀ Ar_8 : tA, Ar_8 = aset Ar 3 y4_6.toNatClampNeg (if (0 : Int32) < (if ((Ar 3 y4_6.toNatClampNeg) + y2_6) < 23 then ((Ar 3 y4_6.toNatClampNeg) + y2_6) else 23) then (if ((Ar 3 y4_6.toNatClampNeg) + y2_6) < 23 then ((Ar 3 y4_6.toNatClampNeg) + y2_6) else 23) else 0) → ((wc_shift_L45 Kd T F y1_6 y2_6 Kx85_6 Q f45) Ar_8 (y4_6 + 1))))
set_option maxHeartbeats 4000000 in
theorem kwc_shift_L45 {Q : Int64 → tF → tA → Prop} (X : cCx p s m args meth c cX0_shift 7 RX0 D G) (hr : meth.sig.returnType = (some .long)) (Kd : tK) (T : tT) (F : tF) (y1_6 : Int32) (y2_6 : Int32) (Kx85_6 : tA → Prop) (hKx85_6 : ∀ (Ar_ : tA) (H : Heap) (locs : List Loc) (ls : Array Slot), cP D (cReg G ad Kd U zz s.heap.size) G ad s.heap Kd U T zz F Ar_ H locs → lv_has ls 7 [(0, .ref (ad 0)), (1, .int y1_6), (3, .ref (ad 20))] → Kx85_6 Ar_ → W p l e ({ frames := 204, cells := 0, slots := 0, locals := 4699 }) s m args below meth c H locs 0 0 (MQ below (cQl D G ad Kd U T zz s.heap.size Q) args s 0 0 (cReg G ad Kd U zz s.heap.size)) (F0 m 85 ls [])) : ∀ (n : Nat) (Ar : tA) (y4_6 : Int32) (H : Heap) (locs : List Loc) (ls : Array Slot), cP D (cReg G ad Kd U zz s.heap.size) G ad s.heap Kd U T zz F Ar H locs → lv_has ls 7 [(0, .ref (ad 0)), (1, .int y1_6), (2, .int y2_6), (3, .ref (ad 20)), (4, .int y4_6)] → wc_shift_L45 Kd T F y1_6 y2_6 Kx85_6 Q n Ar y4_6 → W p l e ({ frames := 204, cells := 0, slots := 0, locals := 4699 }) s m args below meth c H locs 0 0 (MQ below (cQl D G ad Kd U T zz s.heap.size Q) args s 0 0 (cReg G ad Kd U zz s.heap.size)) (F0 m 45 ls []) := by
  obtain ⟨hx, hb, hml, hown, hts, -, hlk, -⟩ := id X
  have S : CallFix p m c _ _ s args lw_all RX0 := ⟨hx, hb, hml, hown, hts⟩
  intro n
  induction n with
  | zero =>
    intro Ar y4_6 H locs ls P hl hw
    exact hw.elim
  | succ n ih =>
    intro Ar y4_6 H locs ls P hl hw
    have hKh45_6 := ih
    refine lv_iload hx hb dX0_shift_45 (lv_at hl 4 rfl) ?_
    refine lv_aload_n hx hb dX0_shift_47 rfl (lv_at hl 0 rfl) ?_
    refine cg_sorts X P dX0_shift_48 ?_
    refine lv_icmp_ge (tgt := 85) hx hb dX0_shift_51 (by decide) (fun c_7 => ?_) (fun c_7 => ?_)
    · replace hw := hw.1 c_7
      exact hKx85_6 _ _ _ _ P (lv_sub hl [0, 1, 3] rfl) hw
    · replace hw := hw.2 c_7
      refine lv_aload_n hx hb dX0_shift_54 rfl (lv_at hl 0 rfl) ?_
      refine cg_wish X P dX0_shift_55 ?_
      refine lv_iload hx hb dX0_shift_58 (lv_at hl 4 rfl) ?_
      refine lv_iconst (v := 0) hx hb dX0_shift_60 (by decide) ?_
      refine lv_bipush (v := 23) hx hb dX0_shift_61 (by decide) ?_
      refine lv_aload_n hx hb dX0_shift_63 rfl (lv_at hl 0 rfl) ?_
      refine cg_wish X P dX0_shift_64 ?_
      refine lv_iload hx hb dX0_shift_67 (lv_at hl 4 rfl) ?_
      refine c_iald X P (rfl : cArr Kd 3 = some (0, 4)) hw.1 dX0_shift_69 ?_
      replace hw := hw.2
      refine lv_iload_n hx hb dX0_shift_70 rfl (lv_at hl 2 rfl) ?_
      refine lv_iadd hx hb dX0_shift_71 ?_
      refine c_min X ⟨Nat.le_of_ble_eq_true rfl, Nat.le_of_ble_eq_true rfl⟩ hl.1 (Nat.le_of_ble_eq_true rfl) ⟨Nat.zero_le _, Nat.zero_le _⟩ dX0_shift_72 ?_
      refine c_max X ⟨Nat.le_of_ble_eq_true rfl, Nat.le_of_ble_eq_true rfl⟩ hl.1 (Nat.le_of_ble_eq_true rfl) ⟨Nat.zero_le _, Nat.zero_le _⟩ dX0_shift_75 ?_
      refine c_iast X P (rfl : cArr Kd 3 = some (0, 4)) hw.1 dX0_shift_78 (fun Ar_8 H locs eAr_8 P _ => ?_)
      replace hw := hw.2
      replace hw := hw Ar_8 eAr_8
      refine lv_iinc (v := (y4_6 + 1)) (lv' := [(4, .int (y4_6 + 1)), (0, .ref (ad 0)), (1, .int y1_6), (2, .int y2_6), (3, .ref (ad 20))]) hx hb dX0_shift_79 hl (k := 4) rfl rfl (by decide) rfl (fun ls hl => ?_)
      refine lv_goto (tgt := 45) hx hb dX0_shift_82 (by decide) ?_
      exact hKh45_6 _ _ _ _ _ P (lv_sub hl [1, 2, 3, 4, 0] rfl) hw
def wc_shift (Kd : tK) (T : tT) (F : tF) (Ar : tA) (a1 : Int32) (a2 : Int32) (Q : Int64 → tF → tA → Prop) : Prop :=
  wc_isWay Kd T F Ar a1 (fun r_1 => ((r_1 = 0 → Q (-4611686018427387904) F Ar) ∧ (¬ r_1 = 0 → wc_in (a2.toInt64) (-23) 23 (fun r_3 => ((¬ r_3 = 0 → ((¬ (0 : Int32) < 0 ∧ ¬ (0 : Int32) < 0 ∧ ¬ (4 : Int32) < 0) ∧ (0 : Int32).toNatClampNeg + (4 : Int32).toNatClampNeg ≤ 4 ∧ (0 : Int32).toNatClampNeg + (4 : Int32).toNatClampNeg ≤ 4) ∧ ∀ Ar_5 : tA, Ar_5 = aput Ar 20 (va_cpy (Ar 3) (Ar 20) (0 : Int32).toNatClampNeg (0 : Int32).toNatClampNeg (4 : Int32).toNatClampNeg) → (∃ n45, wc_shift_L45 Kd T F a1 a2 (fun (Ar_9 : tA) => (¬ a1 < 0 ∧ a1 < F 32) ∧ wc_runs Kd T F Ar_9 (a1.toNatClampNeg) (fun F_12 Ar_13 => (¬ a1 < 0 ∧ a1 < F_12 32) ∧ wc_whole Kd T F_12 Ar_13 (a1.toNatClampNeg) (fun r_15 F_16 Ar_17 => ((¬ (0 : Int32) < 0 ∧ ¬ (0 : Int32) < 0 ∧ ¬ (4 : Int32) < 0) ∧ (0 : Int32).toNatClampNeg + (4 : Int32).toNatClampNeg ≤ 4 ∧ (0 : Int32).toNatClampNeg + (4 : Int32).toNatClampNeg ≤ 4) ∧ ∀ Ar_18 : tA, Ar_18 = aput Ar_17 3 (va_cpy (Ar_17 20) (Ar_17 3) (0 : Int32).toNatClampNeg (0 : Int32).toNatClampNeg (4 : Int32).toNatClampNeg) → Q r_15 F_16 Ar_18))) Q n45 Ar_5 0)) ∧ (r_3 = 0 → Q (-4611686018427387904) F Ar))))))
set_option maxHeartbeats 4000000 in
theorem twc_shift (l : Launch) (D : va_G) (G ad : Nat → Nat) (Kd : tK) (U : tU) (T : tT) (zz : Int32) (F : tF) (Ar : tA) (a1 : Int32) (a2 : Int32) (sz : Nat) (Q : Int64 → tF → tA → Prop) (hw : wc_shift Kd T F Ar a1 a2 Q) : Met l yX0_shift (wsW_ yX0_shift cX0_shift 7 (some .long) [(42, 117, 131, 0), (131, 133, 131, 0)]) ({ frames := 204, cells := 0, slots := 0, locals := 4699 }) (va_Pc [.ref (ad 0), .int a1, .int a2] (cPb D G ad Kd U T zz F Ar sz)) (cQl D G ad Kd U T zz sz Q) 0 0 (cReg G ad Kd U zz sz) := by
  refine c_entryW (by decide) (Nat.le_of_ble_eq_true rfl) ?_
  intro p e s m args below meth c ls X hr hsz P hl
  subst hsz
  have X : cCx p s m args meth c cX0_shift 7 RX0 D G := X
  obtain ⟨hx, hb, hml, hown, hts, -, hlk, -⟩ := id X
  have S : CallFix p m c _ _ s _ lw_all RX0 := ⟨hx, hb, hml, hown, hts⟩
  have hl : lv_has ls 7 [(0, .ref (ad 0)), (1, .int a1), (2, .int a2)] := hl
  refine lv_aload_n hx hb dX0_shift_0 rfl (lv_at hl 0 rfl) ?_
  refine lv_iload_n hx hb dX0_shift_1 rfl (lv_at hl 1 rfl) ?_
  refine cwc_isWay X P (fun _ h => Or.inr h) hw ⟨Nat.le_of_ble_eq_true rfl, Nat.le_of_ble_eq_true rfl⟩ ⟨Nat.zero_le _, Nat.zero_le _⟩ hl.1 (Nat.le_of_ble_eq_true rfl) dX0_shift_2 (fun r_1 hw => ?_)
  refine lv_if_eq (tgt := 22) hx hb dX0_shift_5 (by decide) (fun c_2 => ?_) (fun c_2 => ?_)
  · replace hw := hw.1 c_2
    refine lv_ldc2 (v := (-4611686018427387904)) hx hb hown (hts _ q1099) dX0_shift_22 ?_
    exact c_lret X P hr hw dX0_shift_25
  · replace hw := hw.2 c_2
    refine lv_iload_n hx hb dX0_shift_8 rfl (lv_at hl 2 rfl) ?_
    refine lv_i2l hx hb dX0_shift_9 rfl ?_
    refine lv_ldc2 (v := (-23)) hx hb hown (hts _ q1166) dX0_shift_10 ?_
    refine lv_ldc2 (v := 23) hx hb hown (hts _ q757) dX0_shift_13 ?_
    refine cwc_in S hw ⟨Nat.le_of_ble_eq_true rfl, Nat.le_of_ble_eq_true rfl⟩ ⟨Nat.zero_le _, Nat.zero_le _⟩ hl.1 (Nat.le_of_ble_eq_true rfl) dX0_shift_16 (fun r_3 hw => ?_)
    refine lv_if_ne (tgt := 26) hx hb dX0_shift_19 (by decide) (fun c_4 => ?_) (fun c_4 => ?_)
    · replace hw := hw.1 c_4
      refine lv_aload_n hx hb dX0_shift_26 rfl (lv_at hl 0 rfl) ?_
      refine cg_keptWish X P dX0_shift_27 ?_
      refine lv_astore_n (lv' := [(3, .ref (ad 20)), (0, .ref (ad 0)), (1, .int a1), (2, .int a2)]) hx hb dX0_shift_30 rfl hl (by decide) rfl (fun ls hl => ?_)
      refine lv_aload_n hx hb dX0_shift_31 rfl (lv_at hl 1 rfl) ?_
      refine cg_wish X P dX0_shift_32 ?_
      refine lv_iconst (v := 0) hx hb dX0_shift_35 (by decide) ?_
      refine lv_aload_n hx hb dX0_shift_36 rfl (lv_at hl 0 rfl) ?_
      refine lv_iconst (v := 0) hx hb dX0_shift_37 (by decide) ?_
      refine lv_iconst (v := 4) hx hb dX0_shift_38 (by decide) ?_
      refine c_copy X P (rfl : cArr Kd 3 = some (0, 4)) (rfl : cArr Kd 20 = some (0, 4)) hw.1 ⟨Nat.le_of_ble_eq_true rfl, Nat.le_of_ble_eq_true rfl⟩ hl.1 (Nat.le_of_ble_eq_true rfl) dX0_shift_39 (fun Ar_5 H locs eAr_5 P => ?_)
      replace hw := hw.2
      replace hw := hw Ar_5 eAr_5
      refine lv_iconst (v := 0) hx hb dX0_shift_42 (by decide) ?_
      refine lv_istore (lv' := [(4, .int 0), (3, .ref (ad 20)), (0, .ref (ad 0)), (1, .int a1), (2, .int a2)]) hx hb dX0_shift_43 hl (by decide) rfl (fun ls hl => ?_)
      obtain ⟨n_19, hw⟩ := hw
      refine kwc_shift_L45 X hr _ _ _ _ _ _   ?_ n_19 _ _ _ _ _ P (lv_sub hl [2, 3, 4, 1, 0] rfl) hw
      · intro Ar_9 H locs ls P hl hw
        refine lv_aload_n hx hb dX0_shift_85 rfl (lv_at hl 0 rfl) ?_
        refine lv_aload_n hx hb dX0_shift_86 rfl (lv_at hl 0 rfl) ?_
        refine cg_ways X P dX0_shift_87 ?_
        refine lv_iload_n hx hb dX0_shift_90 rfl (lv_at hl 1 rfl) ?_
        refine c_lget X P hw.1.1 hw.1.2 ⟨Nat.le_of_ble_eq_true rfl, Nat.le_of_ble_eq_true rfl⟩ hl.1 (Nat.le_of_ble_eq_true rfl) ⟨Nat.zero_le _, Nat.zero_le _⟩ dX0_shift_91 (fun hk_10 => ?_)
        replace hw := hw.2
        refine c_castW X P hk_10 dX0_shift_94 ?_
        refine cwc_runs X P (fun _ h => Or.inr h) hw ⟨Nat.le_of_ble_eq_true rfl, Nat.le_of_ble_eq_true rfl⟩ ⟨Nat.zero_le _, Nat.zero_le _⟩ hl.1 (Nat.le_of_ble_eq_true rfl) dX0_shift_97 (fun F_12 Ar_13 H locs hw P => ?_)
        refine lv_aload_n hx hb dX0_shift_100 rfl (lv_at hl 0 rfl) ?_
        refine lv_aload_n hx hb dX0_shift_101 rfl (lv_at hl 0 rfl) ?_
        refine cg_ways X P dX0_shift_102 ?_
        refine lv_iload_n hx hb dX0_shift_105 rfl (lv_at hl 1 rfl) ?_
        refine c_lget X P hw.1.1 hw.1.2 ⟨Nat.le_of_ble_eq_true rfl, Nat.le_of_ble_eq_true rfl⟩ hl.1 (Nat.le_of_ble_eq_true rfl) ⟨Nat.zero_le _, Nat.zero_le _⟩ dX0_shift_106 (fun hk_14 => ?_)
        replace hw := hw.2
        refine c_castW X P hk_14 dX0_shift_109 ?_
        refine cwc_whole X P (fun _ h => Or.inr h) hw ⟨Nat.le_of_ble_eq_true rfl, Nat.le_of_ble_eq_true rfl⟩ ⟨Nat.zero_le _, Nat.zero_le _⟩ hl.1 (Nat.le_of_ble_eq_true rfl) dX0_shift_112 (fun r_15 F_16 Ar_17 H locs hw P => ?_)
        refine lv_lstore (lv' := [(4, .long r_15), (0, .ref (ad 0)), (1, .int a1), (3, .ref (ad 20))]) hx hb dX0_shift_115 hl (by decide) rfl (fun ls hl => ?_)
        refine lv_aload_n hx hb dX0_shift_117 rfl (lv_at hl 3 rfl) ?_
        refine lv_iconst (v := 0) hx hb dX0_shift_118 (by decide) ?_
        refine lv_aload_n hx hb dX0_shift_119 rfl (lv_at hl 1 rfl) ?_
        refine cg_wish X P dX0_shift_120 ?_
        refine lv_iconst (v := 0) hx hb dX0_shift_123 (by decide) ?_
        refine lv_iconst (v := 4) hx hb dX0_shift_124 (by decide) ?_
        refine c_copy X P (rfl : cArr Kd 20 = some (0, 4)) (rfl : cArr Kd 3 = some (0, 4)) hw.1 ⟨Nat.le_of_ble_eq_true rfl, Nat.le_of_ble_eq_true rfl⟩ hl.1 (Nat.le_of_ble_eq_true rfl) dX0_shift_125 (fun Ar_18 H locs eAr_18 P => ?_)
        replace hw := hw.2
        replace hw := hw Ar_18 eAr_18
        refine lv_lload hx hb dX0_shift_128 (lv_at hl 0 rfl) ?_
        exact c_lret X P hr hw dX0_shift_130
    · replace hw := hw.2 c_4
      refine lv_ldc2 (v := (-4611686018427387904)) hx hb hown (hts _ q1099) dX0_shift_22 ?_
      exact c_lret X P hr hw dX0_shift_25
-- image
def wc_image_L46 (Kd : tK) (T : tT) (F : tF) (Kx91_4 : tA → Prop) (Q : Int32 → tF → tA → Prop) : Nat → tA → Int32 → Prop
  | 0, _, _ => False
  | f46 + 1, Ar, y1_4 =>
    (((F 32) ≤ y1_4 → (Kx91_4 Ar)) ∧ (¬ (F 32) ≤ y1_4 → (¬ y1_4 < 0 ∧ y1_4 < F 32) ∧ ((¬ (0 : Int32) < 0 ∧ ¬ (16 * y1_4) < 0 ∧ ¬ (16 : Int32) < 0) ∧ (0 : Int32).toNatClampNeg + (16 : Int32).toNatClampNeg ≤ 16 ∧ (16 * y1_4).toNatClampNeg + (16 : Int32).toNatClampNeg ≤ 128) ∧ (∀ i, i < (16 : Int32).toNatClampNeg → fits .byte (.int (Ar (wa (y1_4.toNatClampNeg)) ((0 : Int32).toNatClampNeg + i))) = true) ∧ ∀ Ar_7 : tA, Ar_7 = aput Ar 24 (va_cpy (Ar (wa (y1_4.toNatClampNeg))) (Ar 24) (0 : Int32).toNatClampNeg (16 * y1_4).toNatClampNeg (16 : Int32).toNatClampNeg) → ((wc_image_L46 Kd T F Kx91_4 Q f46) Ar_7 (y1_4 + 1))))
set_option maxHeartbeats 4000000 in
theorem kwc_image_L46 {Q : Int32 → tF → tA → Prop} (X : cCx p s m args meth c cX0_image 2 RX0 D G) (hr : meth.sig.returnType = (some .int)) (Kd : tK) (T : tT) (F : tF) (Kx91_4 : tA → Prop) (hKx91_4 : ∀ (Ar_ : tA) (H : Heap) (locs : List Loc) (ls : Array Slot), cP D (cReg G ad Kd U zz s.heap.size) G ad s.heap Kd U T zz F Ar_ H locs → lv_has ls 2 [(0, .ref (ad 0))] → Kx91_4 Ar_ → W p l e ({ frames := 3, cells := 0, slots := 0, locals := 64 }) s m args below meth c H locs 0 0 (MQ below (cQi D G ad Kd U T zz s.heap.size Q) args s 0 0 (cReg G ad Kd U zz s.heap.size)) (F0 m 91 ls [])) : ∀ (n : Nat) (Ar : tA) (y1_4 : Int32) (H : Heap) (locs : List Loc) (ls : Array Slot), cP D (cReg G ad Kd U zz s.heap.size) G ad s.heap Kd U T zz F Ar H locs → lv_has ls 2 [(0, .ref (ad 0)), (1, .int y1_4)] → wc_image_L46 Kd T F Kx91_4 Q n Ar y1_4 → W p l e ({ frames := 3, cells := 0, slots := 0, locals := 64 }) s m args below meth c H locs 0 0 (MQ below (cQi D G ad Kd U T zz s.heap.size Q) args s 0 0 (cReg G ad Kd U zz s.heap.size)) (F0 m 46 ls []) := by
  obtain ⟨hx, hb, hml, hown, hts, -, hlk, -⟩ := id X
  have S : CallFix p m c _ _ s args lw_all RX0 := ⟨hx, hb, hml, hown, hts⟩
  intro n
  induction n with
  | zero =>
    intro Ar y1_4 H locs ls P hl hw
    exact hw.elim
  | succ n ih =>
    intro Ar y1_4 H locs ls P hl hw
    have hKh46_4 := ih
    refine lv_iload_n hx hb dX0_image_46 rfl (lv_at hl 1 rfl) ?_
    refine lv_aload_n hx hb dX0_image_47 rfl (lv_at hl 0 rfl) ?_
    refine cg_ways X P dX0_image_48 ?_
    refine c_lsize X P ⟨Nat.le_of_ble_eq_true rfl, Nat.le_of_ble_eq_true rfl⟩ hl.1 (Nat.le_of_ble_eq_true rfl) ⟨Nat.zero_le _, Nat.zero_le _⟩ dX0_image_51 ?_
    refine lv_icmp_ge (tgt := 91) hx hb dX0_image_54 (by decide) (fun c_5 => ?_) (fun c_5 => ?_)
    · replace hw := hw.1 c_5
      exact hKx91_4 _ _ _ _ P (lv_sub hl [0] rfl) hw
    · replace hw := hw.2 c_5
      refine lv_aload_n hx hb dX0_image_57 rfl (lv_at hl 0 rfl) ?_
      refine cg_ways X P dX0_image_58 ?_
      refine lv_iload_n hx hb dX0_image_61 rfl (lv_at hl 1 rfl) ?_
      refine c_lget X P hw.1.1 hw.1.2 ⟨Nat.le_of_ble_eq_true rfl, Nat.le_of_ble_eq_true rfl⟩ hl.1 (Nat.le_of_ble_eq_true rfl) ⟨Nat.zero_le _, Nat.zero_le _⟩ dX0_image_62 (fun hk_6 => ?_)
      replace hw := hw.2
      refine c_castW X P hk_6 dX0_image_65 ?_
      refine c_wg_choice X P hk_6 dX0_image_68 ?_
      refine lv_iconst (v := 0) hx hb dX0_image_71 (by decide) ?_
      refine lv_aload_n hx hb dX0_image_72 rfl (lv_at hl 0 rfl) ?_
      refine cg_imageChoice X P dX0_image_73 ?_
      refine lv_bipush (v := 16) hx hb dX0_image_76 (by decide) ?_
      refine lv_iload_n hx hb dX0_image_78 rfl (lv_at hl 1 rfl) ?_
      refine lv_imul hx hb dX0_image_79 ?_
      refine lv_bipush (v := 16) hx hb dX0_image_80 (by decide) ?_
      refine c_copyb X P (c_warr P hk_6) (rfl : cArr Kd 24 = some (1, 128)) hw.1 hw.2.1 ⟨Nat.le_of_ble_eq_true rfl, Nat.le_of_ble_eq_true rfl⟩ hl.1 (Nat.le_of_ble_eq_true rfl) dX0_image_82 (fun Ar_7 H locs eAr_7 P => ?_)
      replace hw := hw.2.2
      replace hw := hw Ar_7 eAr_7
      refine lv_iinc (v := (y1_4 + 1)) (lv' := [(1, .int (y1_4 + 1)), (0, .ref (ad 0))]) hx hb dX0_image_85 hl (k := 1) rfl rfl (by decide) rfl (fun ls hl => ?_)
      refine lv_goto (tgt := 46) hx hb dX0_image_88 (by decide) ?_
      exact hKh46_4 _ _ _ _ _ P (lv_sub hl [1, 0] rfl) hw
def wc_image (Kd : tK) (T : tT) (F : tF) (Ar : tA) (Q : Int32 → tF → tA → Prop) : Prop :=
  ((¬ (0 : Int32) < 0 ∧ ¬ (0 : Int32) < 0 ∧ ¬ (48 : Int32) < 0) ∧ (0 : Int32).toNatClampNeg + (48 : Int32).toNatClampNeg ≤ 48 ∧ (0 : Int32).toNatClampNeg + (48 : Int32).toNatClampNeg ≤ 48) ∧ ∀ Ar_1 : tA, Ar_1 = aput Ar 21 (va_cpy (Ar 1) (Ar 21) (0 : Int32).toNatClampNeg (0 : Int32).toNatClampNeg (48 : Int32).toNatClampNeg) → ((¬ (0 : Int32) < 0 ∧ ¬ (0 : Int32) < 0 ∧ ¬ (48 : Int32) < 0) ∧ (0 : Int32).toNatClampNeg + (48 : Int32).toNatClampNeg ≤ 48 ∧ (0 : Int32).toNatClampNeg + (48 : Int32).toNatClampNeg ≤ 48) ∧ ∀ Ar_2 : tA, Ar_2 = aput Ar_1 22 (va_cpy (Ar_1 2) (Ar_1 22) (0 : Int32).toNatClampNeg (0 : Int32).toNatClampNeg (48 : Int32).toNatClampNeg) → ((¬ (0 : Int32) < 0 ∧ ¬ (0 : Int32) < 0 ∧ ¬ (4 : Int32) < 0) ∧ (0 : Int32).toNatClampNeg + (4 : Int32).toNatClampNeg ≤ 4 ∧ (0 : Int32).toNatClampNeg + (4 : Int32).toNatClampNeg ≤ 4) ∧ ∀ Ar_3 : tA, Ar_3 = aput Ar_2 23 (va_cpy (Ar_2 3) (Ar_2 23) (0 : Int32).toNatClampNeg (0 : Int32).toNatClampNeg (4 : Int32).toNatClampNeg) → (∃ n46, wc_image_L46 Kd T F (fun (Ar_8 : tA) => ∀ F_9 : tF, F_9 = upd F 24 (F 32) → ∀ F_10 : tF, F_10 = upd F_9 26 (F_9 6) → ∀ F_11 : tF, F_11 = upd F_10 25 (F_10 10) → Q (F_11 24) F_11 Ar_8) Q n46 Ar_3 0)
set_option maxHeartbeats 4000000 in
theorem twc_image (l : Launch) (D : va_G) (G ad : Nat → Nat) (Kd : tK) (U : tU) (T : tT) (zz : Int32) (F : tF) (Ar : tA) (sz : Nat) (Q : Int32 → tF → tA → Prop) (hw : wc_image Kd T F Ar  Q) : Met l yX0_image (ws_ yX0_image cX0_image 2 (some .int)) ({ frames := 3, cells := 0, slots := 0, locals := 64 }) (va_Pc [.ref (ad 0)] (cPb D G ad Kd U T zz F Ar sz)) (cQi D G ad Kd U T zz sz Q) 0 0 (cReg G ad Kd U zz sz) := by
  refine c_entry (by decide) (Nat.le_of_ble_eq_true rfl) ?_
  intro p e s m args below meth c ls X hr hsz P hl
  subst hsz
  have X : cCx p s m args meth c cX0_image 2 RX0 D G := X
  obtain ⟨hx, hb, hml, hown, hts, -, hlk, -⟩ := id X
  have S : CallFix p m c _ _ s _ lw_all RX0 := ⟨hx, hb, hml, hown, hts⟩
  have hl : lv_has ls 2 [(0, .ref (ad 0))] := hl
  refine lv_aload_n hx hb dX0_image_0 rfl (lv_at hl 0 rfl) ?_
  refine cg_rate X P dX0_image_1 ?_
  refine lv_iconst (v := 0) hx hb dX0_image_4 (by decide) ?_
  refine lv_aload_n hx hb dX0_image_5 rfl (lv_at hl 0 rfl) ?_
  refine cg_imageRate X P dX0_image_6 ?_
  refine lv_iconst (v := 0) hx hb dX0_image_9 (by decide) ?_
  refine lv_bipush (v := 48) hx hb dX0_image_10 (by decide) ?_
  refine c_copy X P (rfl : cArr Kd 1 = some (0, 48)) (rfl : cArr Kd 21 = some (0, 48)) hw.1 ⟨Nat.le_of_ble_eq_true rfl, Nat.le_of_ble_eq_true rfl⟩ hl.1 (Nat.le_of_ble_eq_true rfl) dX0_image_12 (fun Ar_1 H locs eAr_1 P => ?_)
  replace hw := hw.2
  replace hw := hw Ar_1 eAr_1
  refine lv_aload_n hx hb dX0_image_15 rfl (lv_at hl 0 rfl) ?_
  refine cg_toll X P dX0_image_16 ?_
  refine lv_iconst (v := 0) hx hb dX0_image_19 (by decide) ?_
  refine lv_aload_n hx hb dX0_image_20 rfl (lv_at hl 0 rfl) ?_
  refine cg_imageToll X P dX0_image_21 ?_
  refine lv_iconst (v := 0) hx hb dX0_image_24 (by decide) ?_
  refine lv_bipush (v := 48) hx hb dX0_image_25 (by decide) ?_
  refine c_copy X P (rfl : cArr Kd 2 = some (0, 48)) (rfl : cArr Kd 22 = some (0, 48)) hw.1 ⟨Nat.le_of_ble_eq_true rfl, Nat.le_of_ble_eq_true rfl⟩ hl.1 (Nat.le_of_ble_eq_true rfl) dX0_image_27 (fun Ar_2 H locs eAr_2 P => ?_)
  replace hw := hw.2
  replace hw := hw Ar_2 eAr_2
  refine lv_aload_n hx hb dX0_image_30 rfl (lv_at hl 0 rfl) ?_
  refine cg_wish X P dX0_image_31 ?_
  refine lv_iconst (v := 0) hx hb dX0_image_34 (by decide) ?_
  refine lv_aload_n hx hb dX0_image_35 rfl (lv_at hl 0 rfl) ?_
  refine cg_imageWish X P dX0_image_36 ?_
  refine lv_iconst (v := 0) hx hb dX0_image_39 (by decide) ?_
  refine lv_iconst (v := 4) hx hb dX0_image_40 (by decide) ?_
  refine c_copy X P (rfl : cArr Kd 3 = some (0, 4)) (rfl : cArr Kd 23 = some (0, 4)) hw.1 ⟨Nat.le_of_ble_eq_true rfl, Nat.le_of_ble_eq_true rfl⟩ hl.1 (Nat.le_of_ble_eq_true rfl) dX0_image_41 (fun Ar_3 H locs eAr_3 P => ?_)
  replace hw := hw.2
  replace hw := hw Ar_3 eAr_3
  refine lv_iconst (v := 0) hx hb dX0_image_44 (by decide) ?_
  refine lv_istore_n (lv' := [(1, .int 0), (0, .ref (ad 0))]) hx hb dX0_image_45 rfl hl (by decide) rfl (fun ls hl => ?_)
  obtain ⟨n_12, hw⟩ := hw
  refine kwc_image_L46 X hr _ _ _ _   ?_ n_12 _ _ _ _ _ P (lv_sub hl [1, 0] rfl) hw
  · intro Ar_8 H locs ls P hl hw
    refine lv_aload_n hx hb dX0_image_91 rfl (lv_at hl 0 rfl) ?_
    refine lv_aload_n hx hb dX0_image_92 rfl (lv_at hl 0 rfl) ?_
    refine cg_ways X P dX0_image_93 ?_
    refine c_lsize X P ⟨Nat.le_of_ble_eq_true rfl, Nat.le_of_ble_eq_true rfl⟩ hl.1 (Nat.le_of_ble_eq_true rfl) ⟨Nat.zero_le _, Nat.zero_le _⟩ dX0_image_96 ?_
    refine cp_imageWays X P dX0_image_99 (fun F_9 H locs eF_9 P _ => ?_)
    replace hw := hw F_9 eF_9
    refine lv_aload_n hx hb dX0_image_102 rfl (lv_at hl 0 rfl) ?_
    refine lv_aload_n hx hb dX0_image_103 rfl (lv_at hl 0 rfl) ?_
    refine cg_sorts X P dX0_image_104 ?_
    refine cp_imageSorts X P dX0_image_107 (fun F_10 H locs eF_10 P _ => ?_)
    replace hw := hw F_10 eF_10
    refine lv_aload_n hx hb dX0_image_110 rfl (lv_at hl 0 rfl) ?_
    refine lv_aload_n hx hb dX0_image_111 rfl (lv_at hl 0 rfl) ?_
    refine cg_rule X P dX0_image_112 ?_
    refine cp_imageRule X P dX0_image_115 (fun F_11 H locs eF_11 P _ => ?_)
    replace hw := hw F_11 eF_11
    refine lv_aload_n hx hb dX0_image_118 rfl (lv_at hl 0 rfl) ?_
    refine cg_imageWays X P dX0_image_119 ?_
    exact c_iret X P hr hw dX0_image_122
-- back
def wc_back_L60 (Kd : tK) (T : tT) (F : tF) (Kx102_5 : tA → Prop) (Q : Int32 → tF → tA → Prop) : Nat → tA → Int32 → Prop
  | 0, _, _ => False
  | f60 + 1, Ar, y1_5 =>
    (((F 24) ≤ y1_5 → (Kx102_5 Ar)) ∧ (¬ (F 24) ≤ y1_5 → (¬ y1_5 < 0 ∧ y1_5 < F 32) ∧ ((¬ (16 * y1_5) < 0 ∧ ¬ (0 : Int32) < 0 ∧ ¬ (16 : Int32) < 0) ∧ (16 * y1_5).toNatClampNeg + (16 : Int32).toNatClampNeg ≤ 128 ∧ (0 : Int32).toNatClampNeg + (16 : Int32).toNatClampNeg ≤ 16) ∧ (∀ i, i < (16 : Int32).toNatClampNeg → fits .byte (.int (Ar 24 ((16 * y1_5).toNatClampNeg + i))) = true) ∧ ∀ Ar_8 : tA, Ar_8 = aput Ar (wa (y1_5.toNatClampNeg)) (va_cpy (Ar 24) (Ar (wa (y1_5.toNatClampNeg))) (16 * y1_5).toNatClampNeg (0 : Int32).toNatClampNeg (16 : Int32).toNatClampNeg) → ((wc_back_L60 Kd T F Kx102_5 Q f60) Ar_8 (y1_5 + 1))))
set_option maxHeartbeats 4000000 in
theorem kwc_back_L60 {Q : Int32 → tF → tA → Prop} (X : cCx p s m args meth c cX0_back 2 RX0 D G) (hr : meth.sig.returnType = (some .int)) (Kd : tK) (T : tT) (F : tF) (Kx102_5 : tA → Prop) (hKx102_5 : ∀ (Ar_ : tA) (H : Heap) (locs : List Loc) (ls : Array Slot), cP D (cReg G ad Kd U zz s.heap.size) G ad s.heap Kd U T zz F Ar_ H locs → lv_has ls 2 [(0, .ref (ad 0))] → Kx102_5 Ar_ → W p l e ({ frames := 3, cells := 0, slots := 0, locals := 64 }) s m args below meth c H locs 0 0 (MQ below (cQi D G ad Kd U T zz s.heap.size Q) args s 0 0 (cReg G ad Kd U zz s.heap.size)) (F0 m 102 ls [])) : ∀ (n : Nat) (Ar : tA) (y1_5 : Int32) (H : Heap) (locs : List Loc) (ls : Array Slot), cP D (cReg G ad Kd U zz s.heap.size) G ad s.heap Kd U T zz F Ar H locs → lv_has ls 2 [(0, .ref (ad 0)), (1, .int y1_5)] → wc_back_L60 Kd T F Kx102_5 Q n Ar y1_5 → W p l e ({ frames := 3, cells := 0, slots := 0, locals := 64 }) s m args below meth c H locs 0 0 (MQ below (cQi D G ad Kd U T zz s.heap.size Q) args s 0 0 (cReg G ad Kd U zz s.heap.size)) (F0 m 60 ls []) := by
  obtain ⟨hx, hb, hml, hown, hts, -, hlk, -⟩ := id X
  have S : CallFix p m c _ _ s args lw_all RX0 := ⟨hx, hb, hml, hown, hts⟩
  intro n
  induction n with
  | zero =>
    intro Ar y1_5 H locs ls P hl hw
    exact hw.elim
  | succ n ih =>
    intro Ar y1_5 H locs ls P hl hw
    have hKh60_5 := ih
    refine lv_iload_n hx hb dX0_back_60 rfl (lv_at hl 1 rfl) ?_
    refine lv_aload_n hx hb dX0_back_61 rfl (lv_at hl 0 rfl) ?_
    refine cg_imageWays X P dX0_back_62 ?_
    refine lv_icmp_ge (tgt := 102) hx hb dX0_back_65 (by decide) (fun c_6 => ?_) (fun c_6 => ?_)
    · replace hw := hw.1 c_6
      exact hKx102_5 _ _ _ _ P (lv_sub hl [0] rfl) hw
    · replace hw := hw.2 c_6
      refine lv_aload_n hx hb dX0_back_68 rfl (lv_at hl 0 rfl) ?_
      refine cg_imageChoice X P dX0_back_69 ?_
      refine lv_bipush (v := 16) hx hb dX0_back_72 (by decide) ?_
      refine lv_iload_n hx hb dX0_back_74 rfl (lv_at hl 1 rfl) ?_
      refine lv_imul hx hb dX0_back_75 ?_
      refine lv_aload_n hx hb dX0_back_76 rfl (lv_at hl 0 rfl) ?_
      refine cg_ways X P dX0_back_77 ?_
      refine lv_iload_n hx hb dX0_back_80 rfl (lv_at hl 1 rfl) ?_
      refine c_lget X P hw.1.1 hw.1.2 ⟨Nat.le_of_ble_eq_true rfl, Nat.le_of_ble_eq_true rfl⟩ hl.1 (Nat.le_of_ble_eq_true rfl) ⟨Nat.zero_le _, Nat.zero_le _⟩ dX0_back_81 (fun hk_7 => ?_)
      replace hw := hw.2
      refine c_castW X P hk_7 dX0_back_84 ?_
      refine c_wg_choice X P hk_7 dX0_back_87 ?_
      refine lv_iconst (v := 0) hx hb dX0_back_90 (by decide) ?_
      refine lv_bipush (v := 16) hx hb dX0_back_91 (by decide) ?_
      refine c_copyb X P (rfl : cArr Kd 24 = some (1, 128)) (c_warr P hk_7) hw.1 hw.2.1 ⟨Nat.le_of_ble_eq_true rfl, Nat.le_of_ble_eq_true rfl⟩ hl.1 (Nat.le_of_ble_eq_true rfl) dX0_back_93 (fun Ar_8 H locs eAr_8 P => ?_)
      replace hw := hw.2.2
      replace hw := hw Ar_8 eAr_8
      refine lv_iinc (v := (y1_5 + 1)) (lv' := [(1, .int (y1_5 + 1)), (0, .ref (ad 0))]) hx hb dX0_back_96 hl (k := 1) rfl rfl (by decide) rfl (fun ls hl => ?_)
      refine lv_goto (tgt := 60) hx hb dX0_back_99 (by decide) ?_
      exact hKh60_5 _ _ _ _ _ P (lv_sub hl [1, 0] rfl) hw
def wc_back (Kd : tK) (T : tT) (F : tF) (Ar : tA) (Q : Int32 → tF → tA → Prop) : Prop :=
  ((¬ (F 24) = (-1) → ((¬ (0 : Int32) < 0 ∧ ¬ (0 : Int32) < 0 ∧ ¬ (48 : Int32) < 0) ∧ (0 : Int32).toNatClampNeg + (48 : Int32).toNatClampNeg ≤ 48 ∧ (0 : Int32).toNatClampNeg + (48 : Int32).toNatClampNeg ≤ 48) ∧ ∀ Ar_2 : tA, Ar_2 = aput Ar 1 (va_cpy (Ar 21) (Ar 1) (0 : Int32).toNatClampNeg (0 : Int32).toNatClampNeg (48 : Int32).toNatClampNeg) → ((¬ (0 : Int32) < 0 ∧ ¬ (0 : Int32) < 0 ∧ ¬ (48 : Int32) < 0) ∧ (0 : Int32).toNatClampNeg + (48 : Int32).toNatClampNeg ≤ 48 ∧ (0 : Int32).toNatClampNeg + (48 : Int32).toNatClampNeg ≤ 48) ∧ ∀ Ar_3 : tA, Ar_3 = aput Ar_2 2 (va_cpy (Ar_2 22) (Ar_2 2) (0 : Int32).toNatClampNeg (0 : Int32).toNatClampNeg (48 : Int32).toNatClampNeg) → ((¬ (0 : Int32) < 0 ∧ ¬ (0 : Int32) < 0 ∧ ¬ (F 26) < 0) ∧ (0 : Int32).toNatClampNeg + (F 26).toNatClampNeg ≤ 4 ∧ (0 : Int32).toNatClampNeg + (F 26).toNatClampNeg ≤ 4) ∧ ∀ Ar_4 : tA, Ar_4 = aput Ar_3 3 (va_cpy (Ar_3 23) (Ar_3 3) (0 : Int32).toNatClampNeg (0 : Int32).toNatClampNeg (F 26).toNatClampNeg) → (∃ n60, wc_back_L60 Kd T F (fun (Ar_9 : tA) => ∀ F_10 : tF, F_10 = upd F 10 (F 25) → Q (F_10 32) F_10 Ar_9) Q n60 Ar_4 0)) ∧ ((F 24) = (-1) → Q (-3) F Ar))
set_option maxHeartbeats 4000000 in
theorem twc_back (l : Launch) (D : va_G) (G ad : Nat → Nat) (Kd : tK) (U : tU) (T : tT) (zz : Int32) (F : tF) (Ar : tA) (sz : Nat) (Q : Int32 → tF → tA → Prop) (hw : wc_back Kd T F Ar  Q) : Met l yX0_back (ws_ yX0_back cX0_back 2 (some .int)) ({ frames := 3, cells := 0, slots := 0, locals := 64 }) (va_Pc [.ref (ad 0)] (cPb D G ad Kd U T zz F Ar sz)) (cQi D G ad Kd U T zz sz Q) 0 0 (cReg G ad Kd U zz sz) := by
  refine c_entry (by decide) (Nat.le_of_ble_eq_true rfl) ?_
  intro p e s m args below meth c ls X hr hsz P hl
  subst hsz
  have X : cCx p s m args meth c cX0_back 2 RX0 D G := X
  obtain ⟨hx, hb, hml, hown, hts, -, hlk, -⟩ := id X
  have S : CallFix p m c _ _ s _ lw_all RX0 := ⟨hx, hb, hml, hown, hts⟩
  have hl : lv_has ls 2 [(0, .ref (ad 0))] := hl
  refine lv_aload_n hx hb dX0_back_0 rfl (lv_at hl 0 rfl) ?_
  refine cg_imageWays X P dX0_back_1 ?_
  refine lv_iconst (v := (-1)) hx hb dX0_back_4 (by decide) ?_
  refine lv_icmp_ne (tgt := 11) hx hb dX0_back_5 (by decide) (fun c_1 => ?_) (fun c_1 => ?_)
  · replace hw := hw.1 c_1
    refine lv_aload_n hx hb dX0_back_11 rfl (lv_at hl 0 rfl) ?_
    refine cg_imageRate X P dX0_back_12 ?_
    refine lv_iconst (v := 0) hx hb dX0_back_15 (by decide) ?_
    refine lv_aload_n hx hb dX0_back_16 rfl (lv_at hl 0 rfl) ?_
    refine cg_rate X P dX0_back_17 ?_
    refine lv_iconst (v := 0) hx hb dX0_back_20 (by decide) ?_
    refine lv_bipush (v := 48) hx hb dX0_back_21 (by decide) ?_
    refine c_copy X P (rfl : cArr Kd 21 = some (0, 48)) (rfl : cArr Kd 1 = some (0, 48)) hw.1 ⟨Nat.le_of_ble_eq_true rfl, Nat.le_of_ble_eq_true rfl⟩ hl.1 (Nat.le_of_ble_eq_true rfl) dX0_back_23 (fun Ar_2 H locs eAr_2 P => ?_)
    replace hw := hw.2
    replace hw := hw Ar_2 eAr_2
    refine lv_aload_n hx hb dX0_back_26 rfl (lv_at hl 0 rfl) ?_
    refine cg_imageToll X P dX0_back_27 ?_
    refine lv_iconst (v := 0) hx hb dX0_back_30 (by decide) ?_
    refine lv_aload_n hx hb dX0_back_31 rfl (lv_at hl 0 rfl) ?_
    refine cg_toll X P dX0_back_32 ?_
    refine lv_iconst (v := 0) hx hb dX0_back_35 (by decide) ?_
    refine lv_bipush (v := 48) hx hb dX0_back_36 (by decide) ?_
    refine c_copy X P (rfl : cArr Kd 22 = some (0, 48)) (rfl : cArr Kd 2 = some (0, 48)) hw.1 ⟨Nat.le_of_ble_eq_true rfl, Nat.le_of_ble_eq_true rfl⟩ hl.1 (Nat.le_of_ble_eq_true rfl) dX0_back_38 (fun Ar_3 H locs eAr_3 P => ?_)
    replace hw := hw.2
    replace hw := hw Ar_3 eAr_3
    refine lv_aload_n hx hb dX0_back_41 rfl (lv_at hl 0 rfl) ?_
    refine cg_imageWish X P dX0_back_42 ?_
    refine lv_iconst (v := 0) hx hb dX0_back_45 (by decide) ?_
    refine lv_aload_n hx hb dX0_back_46 rfl (lv_at hl 0 rfl) ?_
    refine cg_wish X P dX0_back_47 ?_
    refine lv_iconst (v := 0) hx hb dX0_back_50 (by decide) ?_
    refine lv_aload_n hx hb dX0_back_51 rfl (lv_at hl 0 rfl) ?_
    refine cg_imageSorts X P dX0_back_52 ?_
    refine c_copy X P (rfl : cArr Kd 23 = some (0, 4)) (rfl : cArr Kd 3 = some (0, 4)) hw.1 ⟨Nat.le_of_ble_eq_true rfl, Nat.le_of_ble_eq_true rfl⟩ hl.1 (Nat.le_of_ble_eq_true rfl) dX0_back_55 (fun Ar_4 H locs eAr_4 P => ?_)
    replace hw := hw.2
    replace hw := hw Ar_4 eAr_4
    refine lv_iconst (v := 0) hx hb dX0_back_58 (by decide) ?_
    refine lv_istore_n (lv' := [(1, .int 0), (0, .ref (ad 0))]) hx hb dX0_back_59 rfl hl (by decide) rfl (fun ls hl => ?_)
    obtain ⟨n_11, hw⟩ := hw
    refine kwc_back_L60 X hr _ _ _ _   ?_ n_11 _ _ _ _ _ P (lv_sub hl [1, 0] rfl) hw
    · intro Ar_9 H locs ls P hl hw
      refine lv_aload_n hx hb dX0_back_102 rfl (lv_at hl 0 rfl) ?_
      refine lv_aload_n hx hb dX0_back_103 rfl (lv_at hl 0 rfl) ?_
      refine cg_imageRule X P dX0_back_104 ?_
      refine cp_rule X P dX0_back_107 (fun F_10 H locs eF_10 P _ => ?_)
      replace hw := hw F_10 eF_10
      refine lv_aload_n hx hb dX0_back_110 rfl (lv_at hl 0 rfl) ?_
      refine cg_ways X P dX0_back_111 ?_
      refine c_lsize X P ⟨Nat.le_of_ble_eq_true rfl, Nat.le_of_ble_eq_true rfl⟩ hl.1 (Nat.le_of_ble_eq_true rfl) ⟨Nat.zero_le _, Nat.zero_le _⟩ dX0_back_114 ?_
      exact c_iret X P hr hw dX0_back_117
  · replace hw := hw.2 c_1
    refine lv_bipush (v := (-3)) hx hb dX0_back_8 (by decide) ?_
    exact c_iret X P hr hw dX0_back_10
-- sheet
def wc_sheet_J70 (Kd : tK) (T : tT) (F : tF) (Ar : tA) (y1_13 : Int32) (z0_13 : Int32) (z1_13 : Nat) (Q : Int32 → tF → tA → Prop) : Prop :=
  ∀ F_14 : tF, F_14 = upd F (41 + 2 * z1_13) z0_13 → vp_in y1_13 4 ∧ ∀ Ar_16 : tA, Ar_16 = aput Ar (44 + (y1_13.toNatClampNeg)) (flF (Ar (44 + (y1_13.toNatClampNeg))) 40 0) → Q 1 F_14 Ar_16
set_option maxHeartbeats 4000000 in
theorem kwc_sheet_J70 {Q : Int32 → tF → tA → Prop} (X : cCx p s m args meth c cX0_sheet 4 RX0 D G) (hr : meth.sig.returnType = (some .int)) {F : tF} {Ar : tA} (y1_13 : Int32) (z0_13 : Int32) (z1_13 : Nat) (hkz1_13 : z1_13 < 4) {H : Heap} {locs : List Loc} {ls : Array Slot} (P : cP D (cReg G ad Kd U zz s.heap.size) G ad s.heap Kd U T zz F Ar H locs) (hl : lv_has ls 4 [(0, .ref (ad 0)), (1, .int y1_13)]) (hw : wc_sheet_J70 Kd T F Ar y1_13 z0_13 z1_13 Q) : W p l e ({ frames := 2, cells := 0, slots := 0, locals := 45 }) s m args below meth c H locs 0 0 (MQ below (cQi D G ad Kd U T zz s.heap.size Q) args s 0 0 (cReg G ad Kd U zz s.heap.size)) (F0 m 70 ls [.int z0_13, .ref (ad (40 + z1_13))]) := by
  obtain ⟨hx, hb, hml, hown, hts, -, hlk, -⟩ := id X
  have S : CallFix p m c _ _ s args lw_all RX0 := ⟨hx, hb, hml, hown, hts⟩
  refine c_sp_size X P hkz1_13 dX0_sheet_70 (fun F_14 H locs eF_14 P _ => ?_)
  replace hw := hw F_14 eF_14
  refine lv_aload_n hx hb dX0_sheet_73 rfl (lv_at hl 0 rfl) ?_
  refine cg_sheets X P dX0_sheet_74 ?_
  refine lv_iload_n hx hb dX0_sheet_77 rfl (lv_at hl 1 rfl) ?_
  refine c_saald X P hw.1 dX0_sheet_78 (fun hk_15 => ?_)
  replace hw := hw.2
  refine c_sg_cells X P hk_15 dX0_sheet_79 ?_
  refine lv_iconst (v := 0) hx hb dX0_sheet_82 (by decide) ?_
  refine c_fill X P (cArr_sc hk_15) (by decide) ⟨Nat.le_of_ble_eq_true rfl, Nat.le_of_ble_eq_true rfl⟩ hl.1 (Nat.le_of_ble_eq_true rfl) ⟨Nat.zero_le _, Nat.zero_le _⟩ dX0_sheet_83 (fun Ar_16 H locs eAr_16 P => ?_)
  replace hw := hw Ar_16 eAr_16
  refine lv_iconst (v := 1) hx hb dX0_sheet_86 (by decide) ?_
  exact c_iret X P hr hw dX0_sheet_87
def wc_sheet_J45 (Kd : tK) (T : tT) (F : tF) (Ar : tA) (y1_8 : Int32) (y2_8 : Int32) (y3_8 : Int32) (Q : Int32 → tF → tA → Prop) : Prop :=
  vp_in y1_8 4 ∧ ∀ F_10 : tF, F_10 = upd F (40 + 2 * (y1_8.toNatClampNeg)) y2_8 → vp_in y1_8 4 ∧ (((0 : Int32) ≤ y2_8 → (wc_sheet_J70 Kd T F_10 Ar y1_8 y3_8 (y1_8.toNatClampNeg) Q)) ∧ (¬ (0 : Int32) ≤ y2_8 → (wc_sheet_J70 Kd T F_10 Ar y1_8 0 (y1_8.toNatClampNeg) Q)))
set_option maxHeartbeats 4000000 in
theorem kwc_sheet_J45 {Q : Int32 → tF → tA → Prop} (X : cCx p s m args meth c cX0_sheet 4 RX0 D G) (hr : meth.sig.returnType = (some .int)) {F : tF} {Ar : tA} (y1_8 : Int32) (y2_8 : Int32) (y3_8 : Int32) {H : Heap} {locs : List Loc} {ls : Array Slot} (P : cP D (cReg G ad Kd U zz s.heap.size) G ad s.heap Kd U T zz F Ar H locs) (hl : lv_has ls 4 [(0, .ref (ad 0)), (1, .int y1_8), (2, .int y2_8), (3, .int y3_8)]) (hw : wc_sheet_J45 Kd T F Ar y1_8 y2_8 y3_8 Q) : W p l e ({ frames := 2, cells := 0, slots := 0, locals := 45 }) s m args below meth c H locs 0 0 (MQ below (cQi D G ad Kd U T zz s.heap.size Q) args s 0 0 (cReg G ad Kd U zz s.heap.size)) (F0 m 45 ls []) := by
  obtain ⟨hx, hb, hml, hown, hts, -, hlk, -⟩ := id X
  have S : CallFix p m c _ _ s args lw_all RX0 := ⟨hx, hb, hml, hown, hts⟩
  refine lv_aload_n hx hb dX0_sheet_45 rfl (lv_at hl 0 rfl) ?_
  refine cg_sheets X P dX0_sheet_46 ?_
  refine lv_iload_n hx hb dX0_sheet_49 rfl (lv_at hl 1 rfl) ?_
  refine c_saald X P hw.1 dX0_sheet_50 (fun hk_9 => ?_)
  replace hw := hw.2
  refine lv_iload_n hx hb dX0_sheet_51 rfl (lv_at hl 2 rfl) ?_
  refine c_sp_sort X P hk_9 dX0_sheet_52 (fun F_10 H locs eF_10 P _ => ?_)
  replace hw := hw F_10 eF_10
  refine lv_aload_n hx hb dX0_sheet_55 rfl (lv_at hl 0 rfl) ?_
  refine cg_sheets X P dX0_sheet_56 ?_
  refine lv_iload_n hx hb dX0_sheet_59 rfl (lv_at hl 1 rfl) ?_
  refine c_saald X P hw.1 dX0_sheet_60 (fun hk_11 => ?_)
  replace hw := hw.2
  refine lv_iload_n hx hb dX0_sheet_61 rfl (lv_at hl 2 rfl) ?_
  refine lv_if_ge (tgt := 69) hx hb dX0_sheet_62 (by decide) (fun c_12 => ?_) (fun c_12 => ?_)
  · replace hw := hw.1 c_12
    refine lv_iload_n hx hb dX0_sheet_69 rfl (lv_at hl 3 rfl) ?_
    exact kwc_sheet_J70 X hr _ _ _ hk_11 P (lv_sub hl [0, 1] rfl) hw
  · replace hw := hw.2 c_12
    refine lv_iconst (v := 0) hx hb dX0_sheet_65 (by decide) ?_
    refine lv_goto (tgt := 70) hx hb dX0_sheet_66 (by decide) ?_
    exact kwc_sheet_J70 X hr _ _ _ hk_11 P (lv_sub hl [0, 1] rfl) hw
def wc_sheet_J34 (Kd : tK) (T : tT) (F : tF) (Ar : tA) (y1_6 : Int32) (y2_6 : Int32) (y3_6 : Int32) (Q : Int32 → tF → tA → Prop) : Prop :=
  ((y2_6 < 0 → (wc_sheet_J45 Kd T F Ar y1_6 y2_6 y3_6 Q)) ∧ (¬ y2_6 < 0 → (((0 : Int32) ≤ y3_6 → (wc_sheet_J45 Kd T F Ar y1_6 y2_6 y3_6 Q)) ∧ (¬ (0 : Int32) ≤ y3_6 → Q (-14) F Ar))))
set_option maxHeartbeats 4000000 in
theorem kwc_sheet_J34 {Q : Int32 → tF → tA → Prop} (X : cCx p s m args meth c cX0_sheet 4 RX0 D G) (hr : meth.sig.returnType = (some .int)) {F : tF} {Ar : tA} (y1_6 : Int32) (y2_6 : Int32) (y3_6 : Int32) {H : Heap} {locs : List Loc} {ls : Array Slot} (P : cP D (cReg G ad Kd U zz s.heap.size) G ad s.heap Kd U T zz F Ar H locs) (hl : lv_has ls 4 [(0, .ref (ad 0)), (1, .int y1_6), (2, .int y2_6), (3, .int y3_6)]) (hw : wc_sheet_J34 Kd T F Ar y1_6 y2_6 y3_6 Q) : W p l e ({ frames := 2, cells := 0, slots := 0, locals := 45 }) s m args below meth c H locs 0 0 (MQ below (cQi D G ad Kd U T zz s.heap.size Q) args s 0 0 (cReg G ad Kd U zz s.heap.size)) (F0 m 34 ls []) := by
  obtain ⟨hx, hb, hml, hown, hts, -, hlk, -⟩ := id X
  have S : CallFix p m c _ _ s args lw_all RX0 := ⟨hx, hb, hml, hown, hts⟩
  refine lv_iload_n hx hb dX0_sheet_34 rfl (lv_at hl 2 rfl) ?_
  refine lv_if_lt (tgt := 45) hx hb dX0_sheet_35 (by decide) (fun c_7 => ?_) (fun c_7 => ?_)
  · replace hw := hw.1 c_7
    exact kwc_sheet_J45 X hr _ _ _ P (lv_sub hl [0, 1, 2, 3] rfl) hw
  · replace hw := hw.2 c_7
    refine lv_iload_n hx hb dX0_sheet_38 rfl (lv_at hl 3 rfl) ?_
    refine lv_if_ge (tgt := 45) hx hb dX0_sheet_39 (by decide) (fun c_17 => ?_) (fun c_17 => ?_)
    · replace hw := hw.1 c_17
      exact kwc_sheet_J45 X hr _ _ _ P (lv_sub hl [0, 1, 2, 3] rfl) hw
    · replace hw := hw.2 c_17
      refine lv_bipush (v := (-14)) hx hb dX0_sheet_42 (by decide) ?_
      exact c_iret X P hr hw dX0_sheet_44
def wc_sheet (Kd : tK) (T : tT) (F : tF) (Ar : tA) (a1 : Int32) (a2 : Int32) (a3 : Int32) (Q : Int32 → tF → tA → Prop) : Prop :=
  wc_isSheet a1 (fun r_1 => ((r_1 = 0 → Q (-2) F Ar) ∧ (¬ r_1 = 0 → wc_in (a2.toInt64) (-1) 2 (fun r_3 => ((r_3 = 0 → Q (-2) F Ar) ∧ (¬ r_3 = 0 → ((a2 < 0 → (wc_sheet_J34 Kd T F Ar a1 a2 a3 Q)) ∧ (¬ a2 < 0 → ((a3 ≤ 40 → (wc_sheet_J34 Kd T F Ar a1 a2 a3 Q)) ∧ (¬ a3 ≤ 40 → Q (-2) F Ar))))))))))
set_option maxHeartbeats 4000000 in
theorem twc_sheet (l : Launch) (D : va_G) (G ad : Nat → Nat) (Kd : tK) (U : tU) (T : tT) (zz : Int32) (F : tF) (Ar : tA) (a1 : Int32) (a2 : Int32) (a3 : Int32) (sz : Nat) (Q : Int32 → tF → tA → Prop) (hw : wc_sheet Kd T F Ar a1 a2 a3 Q) : Met l yX0_sheet (ws_ yX0_sheet cX0_sheet 4 (some .int)) ({ frames := 2, cells := 0, slots := 0, locals := 45 }) (va_Pc [.ref (ad 0), .int a1, .int a2, .int a3] (cPb D G ad Kd U T zz F Ar sz)) (cQi D G ad Kd U T zz sz Q) 0 0 (cReg G ad Kd U zz sz) := by
  refine c_entry (by decide) (Nat.le_of_ble_eq_true rfl) ?_
  intro p e s m args below meth c ls X hr hsz P hl
  subst hsz
  have X : cCx p s m args meth c cX0_sheet 4 RX0 D G := X
  obtain ⟨hx, hb, hml, hown, hts, -, hlk, -⟩ := id X
  have S : CallFix p m c _ _ s _ lw_all RX0 := ⟨hx, hb, hml, hown, hts⟩
  have hl : lv_has ls 4 [(0, .ref (ad 0)), (1, .int a1), (2, .int a2), (3, .int a3)] := hl
  refine lv_iload_n hx hb dX0_sheet_0 rfl (lv_at hl 1 rfl) ?_
  refine cwc_isSheet S hw ⟨Nat.le_of_ble_eq_true rfl, Nat.le_of_ble_eq_true rfl⟩ ⟨Nat.zero_le _, Nat.zero_le _⟩ hl.1 (Nat.le_of_ble_eq_true rfl) dX0_sheet_1 (fun r_1 hw => ?_)
  refine lv_if_eq (tgt := 31) hx hb dX0_sheet_4 (by decide) (fun c_2 => ?_) (fun c_2 => ?_)
  · replace hw := hw.1 c_2
    refine lv_bipush (v := (-2)) hx hb dX0_sheet_31 (by decide) ?_
    exact c_iret X P hr hw dX0_sheet_33
  · replace hw := hw.2 c_2
    refine lv_iload_n hx hb dX0_sheet_7 rfl (lv_at hl 2 rfl) ?_
    refine lv_i2l hx hb dX0_sheet_8 rfl ?_
    refine lv_ldc2 (v := (-1)) hx hb hown (hts _ q1209) dX0_sheet_9 ?_
    refine lv_ldc2 (v := 2) hx hb hown (hts _ q1108) dX0_sheet_12 ?_
    refine cwc_in S hw ⟨Nat.le_of_ble_eq_true rfl, Nat.le_of_ble_eq_true rfl⟩ ⟨Nat.zero_le _, Nat.zero_le _⟩ hl.1 (Nat.le_of_ble_eq_true rfl) dX0_sheet_15 (fun r_3 hw => ?_)
    refine lv_if_eq (tgt := 31) hx hb dX0_sheet_18 (by decide) (fun c_4 => ?_) (fun c_4 => ?_)
    · replace hw := hw.1 c_4
      refine lv_bipush (v := (-2)) hx hb dX0_sheet_31 (by decide) ?_
      exact c_iret X P hr hw dX0_sheet_33
    · replace hw := hw.2 c_4
      refine lv_iload_n hx hb dX0_sheet_21 rfl (lv_at hl 2 rfl) ?_
      refine lv_if_lt (tgt := 34) hx hb dX0_sheet_22 (by decide) (fun c_5 => ?_) (fun c_5 => ?_)
      · replace hw := hw.1 c_5
        exact kwc_sheet_J34 X hr _ _ _ P (lv_sub hl [0, 1, 2, 3] rfl) hw
      · replace hw := hw.2 c_5
        refine lv_iload_n hx hb dX0_sheet_25 rfl (lv_at hl 3 rfl) ?_
        refine lv_bipush (v := 40) hx hb dX0_sheet_26 (by decide) ?_
        refine lv_icmp_le (tgt := 34) hx hb dX0_sheet_28 (by decide) (fun c_18 => ?_) (fun c_18 => ?_)
        · replace hw := hw.1 c_18
          exact kwc_sheet_J34 X hr _ _ _ P (lv_sub hl [0, 1, 2, 3] rfl) hw
        · replace hw := hw.2 c_18
          refine lv_bipush (v := (-2)) hx hb dX0_sheet_31 (by decide) ?_
          exact c_iret X P hr hw dX0_sheet_33
end CD
