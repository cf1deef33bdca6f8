/-! by gen/comp.py: methods of the class that catch an Odd -/
set_option maxRecDepth 100000
section CX
variable {p : Program} {l : Launch} {e : Env} {R : Room} {s : State} {m : MethodId} {args : Array Value} {below : List Frame} {meth : Method} {c : Code}
variable {cc : ByteArray} {nL pc : Nat} {ls : Array Slot} {rest : List Value} {D : va_G} {G ad : Nat → Nat} {Kd : tK} {U : tU} {T : tT} {zz : Int32}
-- cell
def wc_cell (Kd : tK) (T : tT) (F : tF) (Ar : tA) (a1 : Int32) (a2 : Int32) (a3 : Int32) (Q : Int32 → tF → tA → Prop) : Prop :=
  wc_isSheet a1 (fun r_1 => ((¬ r_1 = 0 → vp_in a1 4 ∧ ((F (40 + 2 * (a1.toNatClampNeg)) < 0 → Q (-11) F Ar) ∧ (¬ F (40 + 2 * (a1.toNatClampNeg)) < 0 → wc_in (a2.toInt64) 0 (((F (41 + 2 * (a1.toNatClampNeg))).toInt64) - 1) (fun r_5 => ((r_5 = 0 → Q (-12) F Ar) ∧ (¬ r_5 = 0 → vp_in a2 40 ∧ ∀ Ar_7 : tA, Ar_7 = aset Ar (44 + (a1.toNatClampNeg)) a2.toNatClampNeg (shV (F (40 + 2 * (a1.toNatClampNeg))) a3) → Q 1 F Ar_7)))))) ∧ (r_1 = 0 → Q (-2) F Ar)))
set_option maxHeartbeats 4000000 in
theorem twc_cell (l : Launch) (D : va_G) (G ad : Nat → Nat) (Kd : tK) (U : tU) (T : tT) (zz : Int32) (F : tF) (Ar : tA) (a1 : Int32) (a2 : Int32) (a3 : Int32) (sz : Nat) (Q : Int32 → tF → tA → Prop) (hw : wc_cell Kd T F Ar a1 a2 a3 Q) : Met l yX0_cell (wsW_ yX0_cell cX0_cell 5 (some .int) [(10, 44, 45, 343)]) ({ frames := 6, cells := 1, slots := 7, locals := 126 }) (va_Pc [.ref (ad 0), .int a1, .int a2, .int a3] (cPz D G ad Kd U T zz F Ar sz)) (cQi D G ad Kd U T zz sz Q) 1 7 (cReg G ad Kd U zz sz) := by
  refine c_entryX (by decide) (Nat.le_of_ble_eq_true rfl) ?_
  intro p e s m args below meth c ls X hr hsz P hl hz hh0
  subst hsz
  have X : cCx p s m args meth c cX0_cell 5 RX0 D G := X
  obtain ⟨hx, hb, hml, hown, hts, -, hlk, -⟩ := id X
  have S : CallFix p m c _ _ s _ lw_all RX0 := ⟨hx, hb, hml, hown, hts⟩
  have hl : lv_has ls 5 [(0, .ref (ad 0)), (1, .int a1), (2, .int a2), (3, .int a3)] := hl
  refine lv_iload_n hx hb dX0_cell_0 rfl (lv_at hl 1 rfl) ?_
  refine cwc_isSheet S hw ⟨Nat.le_of_ble_eq_true rfl, Nat.le_of_ble_eq_true rfl⟩ ⟨Nat.zero_le _, Nat.zero_le _⟩ hl.1 (Nat.le_of_ble_eq_true rfl) dX0_cell_1 (fun r_1 hw => ?_)
  refine lv_if_ne (tgt := 10) hx hb dX0_cell_4 (by decide) (fun c_2 => ?_) (fun c_2 => ?_)
  · replace hw := hw.1 c_2
    refine lv_aload_n hx hb dX0_cell_10 rfl (lv_at hl 0 rfl) ?_
    refine lv_iload_n hx hb dX0_cell_11 rfl (lv_at hl 1 rfl) ?_
    refine c_there X P hz hw.1 ⟨Nat.le_of_ble_eq_true rfl, Nat.le_of_ble_eq_true rfl⟩ ⟨Nat.le_of_ble_eq_true rfl, Nat.le_of_ble_eq_true rfl⟩ hl.1 (Nat.le_of_ble_eq_true rfl) dX0_cell_12 (fun c_3 ao H locs P hO => ?_) (fun c_3 locs hk_4 P => ?_)
    all_goals replace hw := hw.2
    · replace hw := hw.1 c_3
      refine c_caught X hh0 rfl hO ?_
      refine lv_astore (lv' := [(4, .ref ao), (0, .ref (ad 0)), (1, .int a1), (2, .int a2), (3, .int a3)]) hx hb dX0_cell_45 hl (by decide) rfl (fun ls hl => ?_)
      refine lv_aload hx hb dX0_cell_47 (lv_at hl 0 rfl) ?_
      refine c_oget X hO dX0_cell_49 ?_
      exact c_iret X P hr hw dX0_cell_52
    replace hw := hw.2 c_3
    refine lv_astore (lv' := [(4, .ref (ad (40 + (a1.toNatClampNeg)))), (0, .ref (ad 0)), (1, .int a1), (2, .int a2), (3, .int a3)]) hx hb dX0_cell_15 hl (by decide) rfl (fun ls hl => ?_)
    refine lv_iload_n hx hb dX0_cell_17 rfl (lv_at hl 3 rfl) ?_
    refine lv_i2l hx hb dX0_cell_18 rfl ?_
    refine lv_lconst (v := 0) hx hb dX0_cell_19 (by decide) ?_
    refine lv_aload hx hb dX0_cell_20 (lv_at hl 0 rfl) ?_
    refine c_sg_size X P hk_4 dX0_cell_22 ?_
    refine lv_i2l hx hb dX0_cell_25 rfl ?_
    refine lv_lconst (v := 1) hx hb dX0_cell_26 (by decide) ?_
    refine lv_lsub hx hb dX0_cell_27 ?_
    refine cwc_in S hw ⟨Nat.le_of_ble_eq_true rfl, Nat.le_of_ble_eq_true rfl⟩ ⟨Nat.zero_le _, Nat.zero_le _⟩ hl.1 (Nat.le_of_ble_eq_true rfl) dX0_cell_28 (fun r_5 hw => ?_)
    refine lv_bipush (v := (-12)) hx hb dX0_cell_31 (by decide) ?_
    refine c_need X P hz ⟨Nat.le_of_ble_eq_true rfl, Nat.le_of_ble_eq_true rfl⟩ ⟨Nat.le_of_ble_eq_true rfl, Nat.le_of_ble_eq_true rfl⟩ hl.1 (Nat.le_of_ble_eq_true rfl) dX0_cell_33 (fun c_6 ao H locs P hO => ?_) (fun c_6 locs P => ?_)
    · replace hw := hw.1 c_6
      refine c_caught X hh0 rfl hO ?_
      refine lv_astore (lv' := [(4, .ref ao), (0, .ref (ad 0)), (1, .int a1), (2, .int a2), (3, .int a3)]) hx hb dX0_cell_45 hl (by decide) rfl (fun ls hl => ?_)
      refine lv_aload hx hb dX0_cell_47 (lv_at hl 0 rfl) ?_
      refine c_oget X hO dX0_cell_49 ?_
      exact c_iret X P hr hw dX0_cell_52
    replace hw := hw.2 c_6
    refine lv_aload hx hb dX0_cell_36 (lv_at hl 0 rfl) ?_
    refine lv_iload_n hx hb dX0_cell_38 rfl (lv_at hl 3 rfl) ?_
    refine lv_iload_n hx hb dX0_cell_39 rfl (lv_at hl 4 rfl) ?_
    refine c_sput X P hk_4 hw.1 ⟨Nat.le_of_ble_eq_true rfl, Nat.le_of_ble_eq_true rfl⟩ ⟨Nat.zero_le _, Nat.zero_le _⟩ hl.1 (Nat.le_of_ble_eq_true rfl) dX0_cell_40 (fun Ar_7 H locs eAr_7 P => ?_)
    replace hw := hw.2
    replace hw := hw Ar_7 eAr_7
    refine lv_iconst (v := 1) hx hb dX0_cell_43 (by decide) ?_
    refine W.widen (k := 1) (n := 7) (Nat.zero_le _) (Nat.zero_le _) ?_
    exact c_iret X P hr hw dX0_cell_44
  · replace hw := hw.2 c_2
    refine lv_bipush (v := (-2)) hx hb dX0_cell_7 (by decide) ?_
    refine W.widen (k := 1) (n := 7) (Nat.zero_le _) (Nat.zero_le _) ?_
    exact c_iret X P hr hw dX0_cell_9
-- copy
def wc_copy_J98 (Kd : tK) (T : tT) (F : tF) (Ar : tA) (y2_14 : Int32) (y4_14 : Int32) (y5_14 : Int32) (y6_14 : Nat) (y7_14 : Nat) (z0_14 : Int32) (Q : Int32 → tF → tA → Prop) : Prop :=
  ((z0_14 = 0 → Q (-12) F Ar) ∧ (¬ z0_14 = 0 → ((¬ y2_14 < 0 ∧ ¬ y4_14 < 0 ∧ ¬ y5_14 < 0) ∧ y2_14.toNatClampNeg + y5_14.toNatClampNeg ≤ 40 ∧ y4_14.toNatClampNeg + y5_14.toNatClampNeg ≤ 40) ∧ ∀ Ar_16 : tA, Ar_16 = aput Ar (44 + y7_14) (va_cpy (Ar (44 + y6_14)) (Ar (44 + y7_14)) y2_14.toNatClampNeg y4_14.toNatClampNeg y5_14.toNatClampNeg) → Q y5_14 F Ar_16))
set_option maxHeartbeats 4000000 in
theorem kwc_copy_J98 {Q : Int32 → tF → tA → Prop} (X : cCx p s m args meth c cX0_copy 8 RX0 D G) (hr : meth.sig.returnType = (some .int)) (hz : zTh (cReg G ad Kd U zz s.heap.size) s s.heap) (hh0 : c.exceptionTable.toList.map (fun h => (h.startPc, h.endPc, h.handlerPc, h.catchType)) = [(17, 123, 124, 343)]) {F : tF} {Ar : tA} (y2_14 : Int32) (y4_14 : Int32) (y5_14 : Int32) (y6_14 : Nat) (y7_14 : Nat) (z0_14 : Int32) (hky6_14 : y6_14 < 4) (hky7_14 : y7_14 < 4) {H : Heap} {locs : List Loc} {ls : Array Slot} (P : cP D (cReg G ad Kd U zz s.heap.size) G ad s.heap Kd U T zz F Ar H locs) (hl : lv_has ls 8 [(0, .ref (ad 0)), (2, .int y2_14), (4, .int y4_14), (5, .int y5_14), (6, .ref (ad (40 + y6_14))), (7, .ref (ad (40 + y7_14)))]) (hw : wc_copy_J98 Kd T F Ar y2_14 y4_14 y5_14 y6_14 y7_14 z0_14 Q) : W p l e ({ frames := 6, cells := 1, slots := 7, locals := 126 }) s m args below meth c H locs 0 0 (MQ below (cQi D G ad Kd U T zz s.heap.size Q) args s 1 7 (cReg G ad Kd U zz s.heap.size)) (F0 m 98 ls [.int z0_14]) := by
  obtain ⟨hx, hb, hml, hown, hts, -, hlk, -⟩ := id X
  have S : CallFix p m c _ _ s args lw_all RX0 := ⟨hx, hb, hml, hown, hts⟩
  refine lv_bipush (v := (-12)) hx hb dX0_copy_98 (by decide) ?_
  refine c_need X P hz ⟨Nat.le_of_ble_eq_true rfl, Nat.le_of_ble_eq_true rfl⟩ ⟨Nat.le_of_ble_eq_true rfl, Nat.le_of_ble_eq_true rfl⟩ hl.1 (Nat.le_of_ble_eq_true rfl) dX0_copy_100 (fun c_15 ao H locs P hO => ?_) (fun c_15 locs P => ?_)
  · replace hw := hw.1 c_15
    refine c_caught X hh0 rfl hO ?_
    refine lv_astore (lv' := [(6, .ref ao), (0, .ref (ad 0)), (2, .int y2_14), (4, .int y4_14), (5, .int y5_14), (7, .ref (ad (40 + y7_14)))]) hx hb dX0_copy_124 hl (by decide) rfl (fun ls hl => ?_)
    refine lv_aload hx hb dX0_copy_126 (lv_at hl 0 rfl) ?_
    refine c_oget X hO dX0_copy_128 ?_
    exact c_iret X P hr hw dX0_copy_131
  replace hw := hw.2 c_15
  refine lv_aload hx hb dX0_copy_103 (lv_at hl 4 rfl) ?_
  refine c_sg_cells X P hky6_14 dX0_copy_105 ?_
  refine lv_iload_n hx hb dX0_copy_108 rfl (lv_at hl 1 rfl) ?_
  refine lv_aload hx hb dX0_copy_109 (lv_at hl 5 rfl) ?_
  refine c_sg_cells X P hky7_14 dX0_copy_111 ?_
  refine lv_iload hx hb dX0_copy_114 (lv_at hl 2 rfl) ?_
  refine lv_iload hx hb dX0_copy_116 (lv_at hl 3 rfl) ?_
  refine c_copy X P (cArr_sc hky6_14) (cArr_sc hky7_14) hw.1 ⟨Nat.le_of_ble_eq_true rfl, Nat.le_of_ble_eq_true rfl⟩ hl.1 (Nat.le_of_ble_eq_true rfl) dX0_copy_118 (fun Ar_16 H locs eAr_16 P => ?_)
  replace hw := hw.2
  replace hw := hw Ar_16 eAr_16
  refine lv_iload hx hb dX0_copy_121 (lv_at hl 3 rfl) ?_
  refine W.widen (k := 1) (n := 7) (Nat.zero_le _) (Nat.zero_le _) ?_
  exact c_iret X P hr hw dX0_copy_123
def wc_copy_J97 (Kd : tK) (T : tT) (F : tF) (Ar : tA) (y2_13 : Int32) (y4_13 : Int32) (y5_13 : Int32) (y6_13 : Nat) (y7_13 : Nat) (Q : Int32 → tF → tA → Prop) : Prop :=
  (wc_copy_J98 Kd T F Ar y2_13 y4_13 y5_13 y6_13 y7_13 0 Q)
set_option maxHeartbeats 4000000 in
theorem kwc_copy_J97 {Q : Int32 → tF → tA → Prop} (X : cCx p s m args meth c cX0_copy 8 RX0 D G) (hr : meth.sig.returnType = (some .int)) (hz : zTh (cReg G ad Kd U zz s.heap.size) s s.heap) (hh0 : c.exceptionTable.toList.map (fun h => (h.startPc, h.endPc, h.handlerPc, h.catchType)) = [(17, 123, 124, 343)]) {F : tF} {Ar : tA} (y2_13 : Int32) (y4_13 : Int32) (y5_13 : Int32) (y6_13 : Nat) (y7_13 : Nat) (hky6_13 : y6_13 < 4) (hky7_13 : y7_13 < 4) {H : Heap} {locs : List Loc} {ls : Array Slot} (P : cP D (cReg G ad Kd U zz s.heap.size) G ad s.heap Kd U T zz F Ar H locs) (hl : lv_has ls 8 [(0, .ref (ad 0)), (2, .int y2_13), (4, .int y4_13), (5, .int y5_13), (6, .ref (ad (40 + y6_13))), (7, .ref (ad (40 + y7_13)))]) (hw : wc_copy_J97 Kd T F Ar y2_13 y4_13 y5_13 y6_13 y7_13 Q) : W p l e ({ frames := 6, cells := 1, slots := 7, locals := 126 }) s m args below meth c H locs 0 0 (MQ below (cQi D G ad Kd U T zz s.heap.size Q) args s 1 7 (cReg G ad Kd U zz s.heap.size)) (F0 m 97 ls []) := by
  obtain ⟨hx, hb, hml, hown, hts, -, hlk, -⟩ := id X
  have S : CallFix p m c _ _ s args lw_all RX0 := ⟨hx, hb, hml, hown, hts⟩
  refine lv_iconst (v := 0) hx hb dX0_copy_97 (by decide) ?_
  exact kwc_copy_J98 X hr hz hh0 _ _ _ _ _ _ hky6_13 hky7_13 P (lv_sub hl [0, 1, 2, 3, 4, 5] rfl) hw
def wc_copy_J49 (Kd : tK) (T : tT) (F : tF) (Ar : tA) (y2_10 : Int32) (y4_10 : Int32) (y5_10 : Int32) (y6_10 : Nat) (y7_10 : Nat) (z0_10 : Int32) (Q : Int32 → tF → tA → Prop) : Prop :=
  ((z0_10 = 0 → Q (-13) F Ar) ∧ (¬ z0_10 = 0 → ((y5_10 < 0 → (wc_copy_J97 Kd T F Ar y2_10 y4_10 y5_10 y6_10 y7_10 Q)) ∧ (¬ y5_10 < 0 → ((y2_10 < 0 → (wc_copy_J97 Kd T F Ar y2_10 y4_10 y5_10 y6_10 y7_10 Q)) ∧ (¬ y2_10 < 0 → ((y4_10 < 0 → (wc_copy_J97 Kd T F Ar y2_10 y4_10 y5_10 y6_10 y7_10 Q)) ∧ (¬ y4_10 < 0 → ((((F (41 + 2 * y6_10)) - y5_10) < y2_10 → (wc_copy_J97 Kd T F Ar y2_10 y4_10 y5_10 y6_10 y7_10 Q)) ∧ (¬ ((F (41 + 2 * y6_10)) - y5_10) < y2_10 → ((((F (41 + 2 * y7_10)) - y5_10) < y4_10 → (wc_copy_J97 Kd T F Ar y2_10 y4_10 y5_10 y6_10 y7_10 Q)) ∧ (¬ ((F (41 + 2 * y7_10)) - y5_10) < y4_10 → (wc_copy_J98 Kd T F Ar y2_10 y4_10 y5_10 y6_10 y7_10 1 Q)))))))))))))
set_option maxHeartbeats 4000000 in
theorem kwc_copy_J49 {Q : Int32 → tF → tA → Prop} (X : cCx p s m args meth c cX0_copy 8 RX0 D G) (hr : meth.sig.returnType = (some .int)) (hz : zTh (cReg G ad Kd U zz s.heap.size) s s.heap) (hh0 : c.exceptionTable.toList.map (fun h => (h.startPc, h.endPc, h.handlerPc, h.catchType)) = [(17, 123, 124, 343)]) {F : tF} {Ar : tA} (y2_10 : Int32) (y4_10 : Int32) (y5_10 : Int32) (y6_10 : Nat) (y7_10 : Nat) (z0_10 : Int32) (hky6_10 : y6_10 < 4) (hky7_10 : y7_10 < 4) {H : Heap} {locs : List Loc} {ls : Array Slot} (P : cP D (cReg G ad Kd U zz s.heap.size) G ad s.heap Kd U T zz F Ar H locs) (hl : lv_has ls 8 [(0, .ref (ad 0)), (2, .int y2_10), (4, .int y4_10), (5, .int y5_10), (6, .ref (ad (40 + y6_10))), (7, .ref (ad (40 + y7_10)))]) (hw : wc_copy_J49 Kd T F Ar y2_10 y4_10 y5_10 y6_10 y7_10 z0_10 Q) : W p l e ({ frames := 6, cells := 1, slots := 7, locals := 126 }) s m args below meth c H locs 0 0 (MQ below (cQi D G ad Kd U T zz s.heap.size Q) args s 1 7 (cReg G ad Kd U zz s.heap.size)) (F0 m 49 ls [.int z0_10]) := by
  obtain ⟨hx, hb, hml, hown, hts, -, hlk, -⟩ := id X
  have S : CallFix p m c _ _ s args lw_all RX0 := ⟨hx, hb, hml, hown, hts⟩
  refine lv_bipush (v := (-13)) hx hb dX0_copy_49 (by decide) ?_
  refine c_need X P hz ⟨Nat.le_of_ble_eq_true rfl, Nat.le_of_ble_eq_true rfl⟩ ⟨Nat.le_of_ble_eq_true rfl, Nat.le_of_ble_eq_true rfl⟩ hl.1 (Nat.le_of_ble_eq_true rfl) dX0_copy_51 (fun c_11 ao H locs P hO => ?_) (fun c_11 locs P => ?_)
  · replace hw := hw.1 c_11
    refine c_caught X hh0 rfl hO ?_
    refine lv_astore (lv' := [(6, .ref ao), (0, .ref (ad 0)), (2, .int y2_10), (4, .int y4_10), (5, .int y5_10), (7, .ref (ad (40 + y7_10)))]) hx hb dX0_copy_124 hl (by decide) rfl (fun ls hl => ?_)
    refine lv_aload hx hb dX0_copy_126 (lv_at hl 0 rfl) ?_
    refine c_oget X hO dX0_copy_128 ?_
    exact c_iret X P hr hw dX0_copy_131
  replace hw := hw.2 c_11
  refine lv_iload hx hb dX0_copy_54 (lv_at hl 3 rfl) ?_
  refine lv_if_lt (tgt := 97) hx hb dX0_copy_56 (by decide) (fun c_12 => ?_) (fun c_12 => ?_)
  · replace hw := hw.1 c_12
    exact kwc_copy_J97 X hr hz hh0 _ _ _ _ _ hky6_10 hky7_10 P (lv_sub hl [0, 1, 2, 3, 4, 5] rfl) hw
  · replace hw := hw.2 c_12
    refine lv_iload_n hx hb dX0_copy_59 rfl (lv_at hl 1 rfl) ?_
    refine lv_if_lt (tgt := 97) hx hb dX0_copy_60 (by decide) (fun c_17 => ?_) (fun c_17 => ?_)
    · replace hw := hw.1 c_17
      exact kwc_copy_J97 X hr hz hh0 _ _ _ _ _ hky6_10 hky7_10 P (lv_sub hl [0, 1, 2, 3, 4, 5] rfl) hw
    · replace hw := hw.2 c_17
      refine lv_iload hx hb dX0_copy_63 (lv_at hl 2 rfl) ?_
      refine lv_if_lt (tgt := 97) hx hb dX0_copy_65 (by decide) (fun c_18 => ?_) (fun c_18 => ?_)
      · replace hw := hw.1 c_18
        exact kwc_copy_J97 X hr hz hh0 _ _ _ _ _ hky6_10 hky7_10 P (lv_sub hl [0, 1, 2, 3, 4, 5] rfl) hw
      · replace hw := hw.2 c_18
        refine lv_iload_n hx hb dX0_copy_68 rfl (lv_at hl 1 rfl) ?_
        refine lv_aload hx hb dX0_copy_69 (lv_at hl 4 rfl) ?_
        refine c_sg_size X P hky6_10 dX0_copy_71 ?_
        refine lv_iload hx hb dX0_copy_74 (lv_at hl 3 rfl) ?_
        refine lv_isub hx hb dX0_copy_76 ?_
        refine lv_icmp_gt (tgt := 97) hx hb dX0_copy_77 (by decide) (fun c_19 => ?_) (fun c_19 => ?_)
        · replace hw := hw.1 c_19
          exact kwc_copy_J97 X hr hz hh0 _ _ _ _ _ hky6_10 hky7_10 P (lv_sub hl [0, 1, 2, 3, 4, 5] rfl) hw
        · replace hw := hw.2 c_19
          refine lv_iload hx hb dX0_copy_80 (lv_at hl 2 rfl) ?_
          refine lv_aload hx hb dX0_copy_82 (lv_at hl 5 rfl) ?_
          refine c_sg_size X P hky7_10 dX0_copy_84 ?_
          refine lv_iload hx hb dX0_copy_87 (lv_at hl 3 rfl) ?_
          refine lv_isub hx hb dX0_copy_89 ?_
          refine lv_icmp_gt (tgt := 97) hx hb dX0_copy_90 (by decide) (fun c_20 => ?_) (fun c_20 => ?_)
          · replace hw := hw.1 c_20
            exact kwc_copy_J97 X hr hz hh0 _ _ _ _ _ hky6_10 hky7_10 P (lv_sub hl [0, 1, 2, 3, 4, 5] rfl) hw
          · replace hw := hw.2 c_20
            refine lv_iconst (v := 1) hx hb dX0_copy_93 (by decide) ?_
            refine lv_goto (tgt := 98) hx hb dX0_copy_94 (by decide) ?_
            exact kwc_copy_J98 X hr hz hh0 _ _ _ _ _ _ hky6_10 hky7_10 P (lv_sub hl [0, 1, 2, 3, 4, 5] rfl) hw
def wc_copy (Kd : tK) (T : tT) (F : tF) (Ar : tA) (a1 : Int32) (a2 : Int32) (a3 : Int32) (a4 : Int32) (a5 : Int32) (Q : Int32 → tF → tA → Prop) : Prop :=
  wc_isSheet a1 (fun r_1 => ((r_1 = 0 → Q (-2) F Ar) ∧ (¬ r_1 = 0 → wc_isSheet a3 (fun r_3 => ((¬ r_3 = 0 → vp_in a1 4 ∧ ((F (40 + 2 * (a1.toNatClampNeg)) < 0 → Q (-11) F Ar) ∧ (¬ F (40 + 2 * (a1.toNatClampNeg)) < 0 → vp_in a3 4 ∧ ((F (40 + 2 * (a3.toNatClampNeg)) < 0 → Q (-11) F Ar) ∧ (¬ F (40 + 2 * (a3.toNatClampNeg)) < 0 → ((¬ (F (40 + 2 * (a1.toNatClampNeg))) = (F (40 + 2 * (a3.toNatClampNeg))) → (wc_copy_J49 Kd T F Ar a2 a4 a5 (a1.toNatClampNeg) (a3.toNatClampNeg) 0 Q)) ∧ ((F (40 + 2 * (a1.toNatClampNeg))) = (F (40 + 2 * (a3.toNatClampNeg))) → (wc_copy_J49 Kd T F Ar a2 a4 a5 (a1.toNatClampNeg) (a3.toNatClampNeg) 1 Q)))))))) ∧ (r_3 = 0 → Q (-2) F Ar))))))
set_option maxHeartbeats 4000000 in
theorem twc_copy (l : Launch) (D : va_G) (G ad : Nat → Nat) (Kd : tK) (U : tU) (T : tT) (zz : Int32) (F : tF) (Ar : tA) (a1 : Int32) (a2 : Int32) (a3 : Int32) (a4 : Int32) (a5 : Int32) (sz : Nat) (Q : Int32 → tF → tA → Prop) (hw : wc_copy Kd T F Ar a1 a2 a3 a4 a5 Q) : Met l yX0_copy (wsW_ yX0_copy cX0_copy 8 (some .int) [(17, 123, 124, 343)]) ({ frames := 6, cells := 1, slots := 7, locals := 126 }) (va_Pc [.ref (ad 0), .int a1, .int a2, .int a3, .int a4, .int a5] (cPz D G ad Kd U T zz F Ar sz)) (cQi D G ad Kd U T zz sz Q) 1 7 (cReg G ad Kd U zz sz) := by
  refine c_entryX (by decide) (Nat.le_of_ble_eq_true rfl) ?_
  intro p e s m args below meth c ls X hr hsz P hl hz hh0
  subst hsz
  have X : cCx p s m args meth c cX0_copy 8 RX0 D G := X
  obtain ⟨hx, hb, hml, hown, hts, -, hlk, -⟩ := id X
  have S : CallFix p m c _ _ s _ lw_all RX0 := ⟨hx, hb, hml, hown, hts⟩
  have hl : lv_has ls 8 [(0, .ref (ad 0)), (1, .int a1), (2, .int a2), (3, .int a3), (4, .int a4), (5, .int a5)] := hl
  refine lv_iload_n hx hb dX0_copy_0 rfl (lv_at hl 1 rfl) ?_
  refine cwc_isSheet S hw ⟨Nat.le_of_ble_eq_true rfl, Nat.le_of_ble_eq_true rfl⟩ ⟨Nat.zero_le _, Nat.zero_le _⟩ hl.1 (Nat.le_of_ble_eq_true rfl) dX0_copy_1 (fun r_1 hw => ?_)
  refine lv_if_eq (tgt := 14) hx hb dX0_copy_4 (by decide) (fun c_2 => ?_) (fun c_2 => ?_)
  · replace hw := hw.1 c_2
    refine lv_bipush (v := (-2)) hx hb dX0_copy_14 (by decide) ?_
    refine W.widen (k := 1) (n := 7) (Nat.zero_le _) (Nat.zero_le _) ?_
    exact c_iret X P hr hw dX0_copy_16
  · replace hw := hw.2 c_2
    refine lv_iload_n hx hb dX0_copy_7 rfl (lv_at hl 3 rfl) ?_
    refine cwc_isSheet S hw ⟨Nat.le_of_ble_eq_true rfl, Nat.le_of_ble_eq_true rfl⟩ ⟨Nat.zero_le _, Nat.zero_le _⟩ hl.1 (Nat.le_of_ble_eq_true rfl) dX0_copy_8 (fun r_3 hw => ?_)
    refine lv_if_ne (tgt := 17) hx hb dX0_copy_11 (by decide) (fun c_4 => ?_) (fun c_4 => ?_)
    · replace hw := hw.1 c_4
      refine lv_aload_n hx hb dX0_copy_17 rfl (lv_at hl 0 rfl) ?_
      refine lv_iload_n hx hb dX0_copy_18 rfl (lv_at hl 1 rfl) ?_
      refine c_there X P hz hw.1 ⟨Nat.le_of_ble_eq_true rfl, Nat.le_of_ble_eq_true rfl⟩ ⟨Nat.le_of_ble_eq_true rfl, Nat.le_of_ble_eq_true rfl⟩ hl.1 (Nat.le_of_ble_eq_true rfl) dX0_copy_19 (fun c_5 ao H locs P hO => ?_) (fun c_5 locs hk_6 P => ?_)
      all_goals replace hw := hw.2
      · replace hw := hw.1 c_5
        refine c_caught X hh0 rfl hO ?_
        refine lv_astore (lv' := [(6, .ref ao), (0, .ref (ad 0)), (1, .int a1), (2, .int a2), (3, .int a3), (4, .int a4), (5, .int a5)]) hx hb dX0_copy_124 hl (by decide) rfl (fun ls hl => ?_)
        refine lv_aload hx hb dX0_copy_126 (lv_at hl 0 rfl) ?_
        refine c_oget X hO dX0_copy_128 ?_
        exact c_iret X P hr hw dX0_copy_131
      replace hw := hw.2 c_5
      refine lv_astore (lv' := [(6, .ref (ad (40 + (a1.toNatClampNeg)))), (0, .ref (ad 0)), (1, .int a1), (2, .int a2), (3, .int a3), (4, .int a4), (5, .int a5)]) hx hb dX0_copy_22 hl (by decide) rfl (fun ls hl => ?_)
      refine lv_aload_n hx hb dX0_copy_24 rfl (lv_at hl 1 rfl) ?_
      refine lv_iload_n hx hb dX0_copy_25 rfl (lv_at hl 4 rfl) ?_
      refine c_there X P hz hw.1 ⟨Nat.le_of_ble_eq_true rfl, Nat.le_of_ble_eq_true rfl⟩ ⟨Nat.le_of_ble_eq_true rfl, Nat.le_of_ble_eq_true rfl⟩ hl.1 (Nat.le_of_ble_eq_true rfl) dX0_copy_26 (fun c_7 ao H locs P hO => ?_) (fun c_7 locs hk_8 P => ?_)
      all_goals replace hw := hw.2
      · replace hw := hw.1 c_7
        refine c_caught X hh0 rfl hO ?_
        refine lv_astore (lv' := [(6, .ref ao), (0, .ref (ad 0)), (1, .int a1), (2, .int a2), (3, .int a3), (4, .int a4), (5, .int a5)]) hx hb dX0_copy_124 hl (by decide) rfl (fun ls hl => ?_)
        refine lv_aload hx hb dX0_copy_126 (lv_at hl 0 rfl) ?_
        refine c_oget X hO dX0_copy_128 ?_
        exact c_iret X P hr hw dX0_copy_131
      replace hw := hw.2 c_7
      refine lv_astore (lv' := [(7, .ref (ad (40 + (a3.toNatClampNeg)))), (6, .ref (ad (40 + (a1.toNatClampNeg)))), (0, .ref (ad 0)), (1, .int a1), (2, .int a2), (3, .int a3), (4, .int a4), (5, .int a5)]) hx hb dX0_copy_29 hl (by decide) rfl (fun ls hl => ?_)
      refine lv_aload hx hb dX0_copy_31 (lv_at hl 1 rfl) ?_
      refine c_sg_sort X P hk_6 dX0_copy_33 ?_
      refine lv_aload hx hb dX0_copy_36 (lv_at hl 0 rfl) ?_
      refine c_sg_sort X P hk_8 dX0_copy_38 ?_
      refine lv_icmp_ne (tgt := 48) hx hb dX0_copy_41 (by decide) (fun c_9 => ?_) (fun c_9 => ?_)
      · replace hw := hw.1 c_9
        refine lv_iconst (v := 0) hx hb dX0_copy_48 (by decide) ?_
        exact kwc_copy_J49 X hr hz hh0 _ _ _ _ _ _ hk_6 hk_8 P (lv_sub hl [2, 4, 6, 7, 1, 0] rfl) hw
      · replace hw := hw.2 c_9
        refine lv_iconst (v := 1) hx hb dX0_copy_44 (by decide) ?_
        refine lv_goto (tgt := 49) hx hb dX0_copy_45 (by decide) ?_
        exact kwc_copy_J49 X hr hz hh0 _ _ _ _ _ _ hk_6 hk_8 P (lv_sub hl [2, 4, 6, 7, 1, 0] rfl) hw
    · replace hw := hw.2 c_4
      refine lv_bipush (v := (-2)) hx hb dX0_copy_14 (by decide) ?_
      refine W.widen (k := 1) (n := 7) (Nat.zero_le _) (Nat.zero_le _) ?_
      exact c_iret X P hr hw dX0_copy_16
-- rates
def wc_rates_J160 (Kd : tK) (T : tT) (F : tF) (Ar : tA) (y3_23 : Int32) (y4_23 : Int32) (y5_23 : Int32) (y6_23 : Nat) (y7_23 : Int32) (Kh67_12 : tF → tA → Int32 → Int32 → Prop) (Q : Int32 → tF → tA → Prop) : Prop :=
  (Kh67_12 F Ar y5_23 (y7_23 + 1))
set_option maxHeartbeats 4000000 in
theorem kwc_rates_J160 {Q : Int32 → tF → tA → Prop} (X : cCx p s m args meth c cX0_rates 9 RX0 D G) (hr : meth.sig.returnType = (some .int)) (hz : zTh (cReg G ad Kd U zz s.heap.size) s s.heap) (hh0 : c.exceptionTable.toList.map (fun h => (h.startPc, h.endPc, h.handlerPc, h.catchType)) = [(38, 168, 169, 343)]) {F : tF} {Ar : tA} (y3_23 : Int32) (y4_23 : Int32) (y5_23 : Int32) (y6_23 : Nat) (y7_23 : Int32) (Kh67_12 : tF → tA → Int32 → Int32 → Prop) (hky6_23 : y6_23 < 4) {H : Heap} {locs : List Loc} {ls : Array Slot} (P : cP D (cReg G ad Kd U zz s.heap.size) G ad s.heap Kd U T zz F Ar H locs) (hl : lv_has ls 9 [(0, .ref (ad 0)), (3, .int y3_23), (4, .int y4_23), (5, .int y5_23), (6, .ref (ad (40 + y6_23))), (7, .int y7_23)]) (hw : wc_rates_J160 Kd T F Ar y3_23 y4_23 y5_23 y6_23 y7_23 Kh67_12 Q) (hKh67_12 : ∀ (F_ : tF) (Ar_ : tA) (w5_ : Int32) (w7_ : Int32) (H : Heap) (locs : List Loc) (ls : Array Slot), cP D (cReg G ad Kd U zz s.heap.size) G ad s.heap Kd U T zz F_ Ar_ H locs → lv_has ls 9 [(0, .ref (ad 0)), (3, .int y3_23), (4, .int y4_23), (5, .int w5_), (6, .ref (ad (40 + y6_23))), (7, .int w7_)] → Kh67_12 F_ Ar_ w5_ w7_ → W p l e ({ frames := 6, cells := 1, slots := 7, locals := 126 }) s m args below meth c H locs 0 0 (MQ below (cQi D G ad Kd U T zz s.heap.size Q) args s 1 7 (cReg G ad Kd U zz s.heap.size)) (F0 m 67 ls [])) : W p l e ({ frames := 6, cells := 1, slots := 7, locals := 126 }) s m args below meth c H locs 0 0 (MQ below (cQi D G ad Kd U T zz s.heap.size Q) args s 1 7 (cReg G ad Kd U zz s.heap.size)) (F0 m 160 ls []) := by
  obtain ⟨hx, hb, hml, hown, hts, -, hlk, -⟩ := id X
  have S : CallFix p m c _ _ s args lw_all RX0 := ⟨hx, hb, hml, hown, hts⟩
  refine lv_iinc (v := (y7_23 + 1)) (lv' := [(7, .int (y7_23 + 1)), (0, .ref (ad 0)), (3, .int y3_23), (4, .int y4_23), (5, .int y5_23), (6, .ref (ad (40 + y6_23)))]) hx hb dX0_rates_160 hl (k := 5) rfl rfl (by decide) rfl (fun ls hl => ?_)
  refine lv_goto (tgt := 67) hx hb dX0_rates_163 (by decide) ?_
  exact hKh67_12 _ _ _ _ _ _ _ P (lv_sub hl [1, 2, 3, 4, 5, 0] rfl) hw
def wc_rates_J99 (Kd : tK) (T : tT) (F : tF) (Ar : tA) (y3_16 : Int32) (y4_16 : Int32) (y5_16 : Int32) (y6_16 : Nat) (y7_16 : Int32) (z0_16 : Int32) (Kh67_12 : tF → tA → Int32 → Int32 → Prop) (Q : Int32 → tF → tA → Prop) : Prop :=
  ((z0_16 = 0 → Q (-12) F Ar) ∧ (¬ z0_16 = 0 → ∀ x8_18 : Int32, x8_18 = (y3_16 + (4 * y7_16)) → vp_in x8_18 40 ∧ vp_in (x8_18 + 1) 40 ∧ vp_in (x8_18 + 2) 40 ∧ vp_in (x8_18 + 3) 40 ∧ wc_rate Kd T F Ar (Ar (44 + y6_16) x8_18.toNatClampNeg) (Ar (44 + y6_16) (x8_18 + 1).toNatClampNeg) (Ar (44 + y6_16) (x8_18 + 2).toNatClampNeg) (Ar (44 + y6_16) (x8_18 + 3).toNatClampNeg) (fun r_19 F_20 Ar_21 => ((r_19 < 0 → (wc_rates_J160 Kd T F_20 Ar_21 y3_16 y4_16 y5_16 y6_16 y7_16 Kh67_12 Q)) ∧ (¬ r_19 < 0 → (wc_rates_J160 Kd T F_20 Ar_21 y3_16 y4_16 (y5_16 + 1) y6_16 y7_16 Kh67_12 Q))))))
set_option maxHeartbeats 4000000 in
theorem kwc_rates_J99 {Q : Int32 → tF → tA → Prop} (X : cCx p s m args meth c cX0_rates 9 RX0 D G) (hr : meth.sig.returnType = (some .int)) (hz : zTh (cReg G ad Kd U zz s.heap.size) s s.heap) (hh0 : c.exceptionTable.toList.map (fun h => (h.startPc, h.endPc, h.handlerPc, h.catchType)) = [(38, 168, 169, 343)]) {F : tF} {Ar : tA} (y3_16 : Int32) (y4_16 : Int32) (y5_16 : Int32) (y6_16 : Nat) (y7_16 : Int32) (z0_16 : Int32) (Kh67_12 : tF → tA → Int32 → Int32 → Prop) (hky6_16 : y6_16 < 4) {H : Heap} {locs : List Loc} {ls : Array Slot} (P : cP D (cReg G ad Kd U zz s.heap.size) G ad s.heap Kd U T zz F Ar H locs) (hl : lv_has ls 9 [(0, .ref (ad 0)), (3, .int y3_16), (4, .int y4_16), (5, .int y5_16), (6, .ref (ad (40 + y6_16))), (7, .int y7_16)]) (hw : wc_rates_J99 Kd T F Ar y3_16 y4_16 y5_16 y6_16 y7_16 z0_16 Kh67_12 Q) (hKh67_12 : ∀ (F_ : tF) (Ar_ : tA) (w5_ : Int32) (w7_ : Int32) (H : Heap) (locs : List Loc) (ls : Array Slot), cP D (cReg G ad Kd U zz s.heap.size) G ad s.heap Kd U T zz F_ Ar_ H locs → lv_has ls 9 [(0, .ref (ad 0)), (3, .int y3_16), (4, .int y4_16), (5, .int w5_), (6, .ref (ad (40 + y6_16))), (7, .int w7_)] → Kh67_12 F_ Ar_ w5_ w7_ → W p l e ({ frames := 6, cells := 1, slots := 7, locals := 126 }) s m args below meth c H locs 0 0 (MQ below (cQi D G ad Kd U T zz s.heap.size Q) args s 1 7 (cReg G ad Kd U zz s.heap.size)) (F0 m 67 ls [])) : W p l e ({ frames := 6, cells := 1, slots := 7, locals := 126 }) s m args below meth c H locs 0 0 (MQ below (cQi D G ad Kd U T zz s.heap.size Q) args s 1 7 (cReg G ad Kd U zz s.heap.size)) (F0 m 99 ls [.int z0_16]) := by
  obtain ⟨hx, hb, hml, hown, hts, -, hlk, -⟩ := id X
  have S : CallFix p m c _ _ s args lw_all RX0 := ⟨hx, hb, hml, hown, hts⟩
  refine lv_bipush (v := (-12)) hx hb dX0_rates_99 (by decide) ?_
  refine c_need X P hz ⟨Nat.le_of_ble_eq_true rfl, Nat.le_of_ble_eq_true rfl⟩ ⟨Nat.le_of_ble_eq_true rfl, Nat.le_of_ble_eq_true rfl⟩ hl.1 (Nat.le_of_ble_eq_true rfl) dX0_rates_101 (fun c_17 ao H locs P hO => ?_) (fun c_17 locs P => ?_)
  · replace hw := hw.1 c_17
    refine c_caught X hh0 rfl hO ?_
    refine lv_astore (lv' := [(6, .ref ao), (0, .ref (ad 0)), (3, .int y3_16), (4, .int y4_16), (5, .int y5_16), (7, .int y7_16)]) hx hb dX0_rates_169 hl (by decide) rfl (fun ls hl => ?_)
    refine lv_aload hx hb dX0_rates_171 (lv_at hl 0 rfl) ?_
    refine c_oget X hO dX0_rates_173 ?_
    exact c_iret X P hr hw dX0_rates_176
  replace hw := hw.2 c_17
  refine lv_iload_n hx hb dX0_rates_104 rfl (lv_at hl 1 rfl) ?_
  refine lv_iconst (v := 4) hx hb dX0_rates_105 (by decide) ?_
  refine lv_iload hx hb dX0_rates_106 (lv_at hl 5 rfl) ?_
  refine lv_imul hx hb dX0_rates_108 ?_
  refine lv_iadd hx hb dX0_rates_109 ?_
  refine lv_topi (fun x8_18 ex8_18 => ?_)
  replace hw := hw x8_18 ex8_18
  refine lv_istore (lv' := [(8, .int x8_18), (0, .ref (ad 0)), (3, .int y3_16), (4, .int y4_16), (5, .int y5_16), (6, .ref (ad (40 + y6_16))), (7, .int y7_16)]) hx hb dX0_rates_110 hl (by decide) rfl (fun ls hl => ?_)
  refine lv_aload_n hx hb dX0_rates_112 rfl (lv_at hl 1 rfl) ?_
  refine lv_aload hx hb dX0_rates_113 (lv_at hl 5 rfl) ?_
  refine c_sg_cells X P hky6_16 dX0_rates_115 ?_
  refine lv_iload hx hb dX0_rates_118 (lv_at hl 0 rfl) ?_
  refine c_iald X P (cArr_sc hky6_16) hw.1 dX0_rates_120 ?_
  replace hw := hw.2
  refine lv_aload hx hb dX0_rates_121 (lv_at hl 5 rfl) ?_
  refine c_sg_cells X P hky6_16 dX0_rates_123 ?_
  refine lv_iload hx hb dX0_rates_126 (lv_at hl 0 rfl) ?_
  refine lv_iconst (v := 1) hx hb dX0_rates_128 (by decide) ?_
  refine lv_iadd hx hb dX0_rates_129 ?_
  refine c_iald X P (cArr_sc hky6_16) hw.1 dX0_rates_130 ?_
  replace hw := hw.2
  refine lv_aload hx hb dX0_rates_131 (lv_at hl 5 rfl) ?_
  refine c_sg_cells X P hky6_16 dX0_rates_133 ?_
  refine lv_iload hx hb dX0_rates_136 (lv_at hl 0 rfl) ?_
  refine lv_iconst (v := 2) hx hb dX0_rates_138 (by decide) ?_
  refine lv_iadd hx hb dX0_rates_139 ?_
  refine c_iald X P (cArr_sc hky6_16) hw.1 dX0_rates_140 ?_
  replace hw := hw.2
  refine lv_aload hx hb dX0_rates_141 (lv_at hl 5 rfl) ?_
  refine c_sg_cells X P hky6_16 dX0_rates_143 ?_
  refine lv_iload hx hb dX0_rates_146 (lv_at hl 0 rfl) ?_
  refine lv_iconst (v := 3) hx hb dX0_rates_148 (by decide) ?_
  refine lv_iadd hx hb dX0_rates_149 ?_
  refine c_iald X P (cArr_sc hky6_16) hw.1 dX0_rates_150 ?_
  replace hw := hw.2
  refine cwc_rate X P (fun _ h => Or.inr h) hw ⟨Nat.le_of_ble_eq_true rfl, Nat.le_of_ble_eq_true rfl⟩ ⟨Nat.zero_le _, Nat.zero_le _⟩ hl.1 (Nat.le_of_ble_eq_true rfl) dX0_rates_151 (fun r_19 F_20 Ar_21 H locs hw P => ?_)
  refine lv_if_lt (tgt := 160) hx hb dX0_rates_154 (by decide) (fun c_22 => ?_) (fun c_22 => ?_)
  · replace hw := hw.1 c_22
    exact kwc_rates_J160 X hr hz hh0 _ _ _ _ _ _ hky6_16 P (lv_sub hl [1, 2, 3, 4, 5, 6] rfl) hw hKh67_12
  · replace hw := hw.2 c_22
    refine lv_iinc (v := (y5_16 + 1)) (lv' := [(5, .int (y5_16 + 1)), (8, .int x8_18), (0, .ref (ad 0)), (3, .int y3_16), (4, .int y4_16), (6, .ref (ad (40 + y6_16))), (7, .int y7_16)]) hx hb dX0_rates_157 hl (k := 4) rfl rfl (by decide) rfl (fun ls hl => ?_)
    exact kwc_rates_J160 X hr hz hh0 _ _ _ _ _ _ hky6_16 P (lv_sub hl [2, 3, 4, 0, 5, 6] rfl) hw hKh67_12
def wc_rates_J98 (Kd : tK) (T : tT) (F : tF) (Ar : tA) (y3_15 : Int32) (y4_15 : Int32) (y5_15 : Int32) (y6_15 : Nat) (y7_15 : Int32) (Kh67_12 : tF → tA → Int32 → Int32 → Prop) (Q : Int32 → tF → tA → Prop) : Prop :=
  (wc_rates_J99 Kd T F Ar y3_15 y4_15 y5_15 y6_15 y7_15 0 Kh67_12 Q)
set_option maxHeartbeats 4000000 in
theorem kwc_rates_J98 {Q : Int32 → tF → tA → Prop} (X : cCx p s m args meth c cX0_rates 9 RX0 D G) (hr : meth.sig.returnType = (some .int)) (hz : zTh (cReg G ad Kd U zz s.heap.size) s s.heap) (hh0 : c.exceptionTable.toList.map (fun h => (h.startPc, h.endPc, h.handlerPc, h.catchType)) = [(38, 168, 169, 343)]) {F : tF} {Ar : tA} (y3_15 : Int32) (y4_15 : Int32) (y5_15 : Int32) (y6_15 : Nat) (y7_15 : Int32) (Kh67_12 : tF → tA → Int32 → Int32 → Prop) (hky6_15 : y6_15 < 4) {H : Heap} {locs : List Loc} {ls : Array Slot} (P : cP D (cReg G ad Kd U zz s.heap.size) G ad s.heap Kd U T zz F Ar H locs) (hl : lv_has ls 9 [(0, .ref (ad 0)), (3, .int y3_15), (4, .int y4_15), (5, .int y5_15), (6, .ref (ad (40 + y6_15))), (7, .int y7_15)]) (hw : wc_rates_J98 Kd T F Ar y3_15 y4_15 y5_15 y6_15 y7_15 Kh67_12 Q) (hKh67_12 : ∀ (F_ : tF) (Ar_ : tA) (w5_ : Int32) (w7_ : Int32) (H : Heap) (locs : List Loc) (ls : Array Slot), cP D (cReg G ad Kd U zz s.heap.size) G ad s.heap Kd U T zz F_ Ar_ H locs → lv_has ls 9 [(0, .ref (ad 0)), (3, .int y3_15), (4, .int y4_15), (5, .int w5_), (6, .ref (ad (40 + y6_15))), (7, .int w7_)] → Kh67_12 F_ Ar_ w5_ w7_ → W p l e ({ frames := 6, cells := 1, slots := 7, locals := 126 }) s m args below meth c H locs 0 0 (MQ below (cQi D G ad Kd U T zz s.heap.size Q) args s 1 7 (cReg G ad Kd U zz s.heap.size)) (F0 m 67 ls [])) : W p l e ({ frames := 6, cells := 1, slots := 7, locals := 126 }) s m args below meth c H locs 0 0 (MQ below (cQi D G ad Kd U T zz s.heap.size Q) args s 1 7 (cReg G ad Kd U zz s.heap.size)) (F0 m 98 ls []) := by
  obtain ⟨hx, hb, hml, hown, hts, -, hlk, -⟩ := id X
  have S : CallFix p m c _ _ s args lw_all RX0 := ⟨hx, hb, hml, hown, hts⟩
  refine lv_iconst (v := 0) hx hb dX0_rates_98 (by decide) ?_
  exact kwc_rates_J99 X hr hz hh0 _ _ _ _ _ _ _ hky6_15 P (lv_sub hl [0, 1, 2, 3, 4, 5] rfl) hw hKh67_12
def wc_rates_L67 (Kd : tK) (T : tT) (y3_12 : Int32) (y4_12 : Int32) (y6_12 : Nat) (Q : Int32 → tF → tA → Prop) : Nat → tF → tA → Int32 → Int32 → Prop
  | 0, _, _, _, _ => False
  | f67 + 1, F, Ar, y5_12, y7_12 =>
    ((y4_12 ≤ y7_12 → Q y5_12 F Ar) ∧ (¬ y4_12 ≤ y7_12 → ((y3_12 < 0 → (wc_rates_J98 Kd T F Ar y3_12 y4_12 y5_12 y6_12 y7_12 (wc_rates_L67 Kd T y3_12 y4_12 y6_12 Q f67) Q)) ∧ (¬ y3_12 < 0 → (((((F (41 + 2 * y6_12)) - (4 * y7_12)) - 4) < y3_12 → (wc_rates_J98 Kd T F Ar y3_12 y4_12 y5_12 y6_12 y7_12 (wc_rates_L67 Kd T y3_12 y4_12 y6_12 Q f67) Q)) ∧ (¬ (((F (41 + 2 * y6_12)) - (4 * y7_12)) - 4) < y3_12 → (wc_rates_J99 Kd T F Ar y3_12 y4_12 y5_12 y6_12 y7_12 1 (wc_rates_L67 Kd T y3_12 y4_12 y6_12 Q f67) Q)))))))
set_option maxHeartbeats 4000000 in
theorem kwc_rates_L67 (Kd : tK) {Q : Int32 → tF → tA → Prop} (X : cCx p s m args meth c cX0_rates 9 RX0 D G) (hr : meth.sig.returnType = (some .int)) (hz : zTh (cReg G ad Kd U zz s.heap.size) s s.heap) (hh0 : c.exceptionTable.toList.map (fun h => (h.startPc, h.endPc, h.handlerPc, h.catchType)) = [(38, 168, 169, 343)]) (T : tT) (y3_12 : Int32) (y4_12 : Int32) (y6_12 : Nat) (hky6_12 : y6_12 < 4) : ∀ (n : Nat) (F : tF) (Ar : tA) (y5_12 : Int32) (y7_12 : Int32) (H : Heap) (locs : List Loc) (ls : Array Slot), cP D (cReg G ad Kd U zz s.heap.size) G ad s.heap Kd U T zz F Ar H locs → lv_has ls 9 [(0, .ref (ad 0)), (3, .int y3_12), (4, .int y4_12), (5, .int y5_12), (6, .ref (ad (40 + y6_12))), (7, .int y7_12)] → wc_rates_L67 Kd T y3_12 y4_12 y6_12 Q n F Ar y5_12 y7_12 → W p l e ({ frames := 6, cells := 1, slots := 7, locals := 126 }) s m args below meth c H locs 0 0 (MQ below (cQi D G ad Kd U T zz s.heap.size Q) args s 1 7 (cReg G ad Kd U zz s.heap.size)) (F0 m 67 ls []) := by
  obtain ⟨hx, hb, hml, hown, hts, -, hlk, -⟩ := id X
  have S : CallFix p m c _ _ s args lw_all RX0 := ⟨hx, hb, hml, hown, hts⟩
  intro n
  induction n with
  | zero =>
    intro F Ar y5_12 y7_12 H locs ls P hl hw
    exact hw.elim
  | succ n ih =>
    intro F Ar y5_12 y7_12 H locs ls P hl hw
    have hKh67_12 := ih
    refine lv_iload hx hb dX0_rates_67 (lv_at hl 5 rfl) ?_
    refine lv_iload hx hb dX0_rates_69 (lv_at hl 2 rfl) ?_
    refine lv_icmp_ge (tgt := 166) hx hb dX0_rates_71 (by decide) (fun c_13 => ?_) (fun c_13 => ?_)
    · replace hw := hw.1 c_13
      refine lv_iload hx hb dX0_rates_166 (lv_at hl 3 rfl) ?_
      refine W.widen (k := 1) (n := 7) (Nat.zero_le _) (Nat.zero_le _) ?_
      exact c_iret X P hr hw dX0_rates_168
    · replace hw := hw.2 c_13
      refine lv_iload_n hx hb dX0_rates_74 rfl (lv_at hl 1 rfl) ?_
      refine lv_if_lt (tgt := 98) hx hb dX0_rates_75 (by decide) (fun c_14 => ?_) (fun c_14 => ?_)
      · replace hw := hw.1 c_14
        exact kwc_rates_J98 X hr hz hh0 _ _ _ _ _ _ hky6_12 P (lv_sub hl [0, 1, 2, 3, 4, 5] rfl) hw hKh67_12
      · replace hw := hw.2 c_14
        refine lv_iload_n hx hb dX0_rates_78 rfl (lv_at hl 1 rfl) ?_
        refine lv_aload hx hb dX0_rates_79 (lv_at hl 4 rfl) ?_
        refine c_sg_size X P hky6_12 dX0_rates_81 ?_
        refine lv_iconst (v := 4) hx hb dX0_rates_84 (by decide) ?_
        refine lv_iload hx hb dX0_rates_85 (lv_at hl 5 rfl) ?_
        refine lv_imul hx hb dX0_rates_87 ?_
        refine lv_isub hx hb dX0_rates_88 ?_
        refine lv_iconst (v := 4) hx hb dX0_rates_89 (by decide) ?_
        refine lv_isub hx hb dX0_rates_90 ?_
        refine lv_icmp_gt (tgt := 98) hx hb dX0_rates_91 (by decide) (fun c_24 => ?_) (fun c_24 => ?_)
        · replace hw := hw.1 c_24
          exact kwc_rates_J98 X hr hz hh0 _ _ _ _ _ _ hky6_12 P (lv_sub hl [0, 1, 2, 3, 4, 5] rfl) hw hKh67_12
        · replace hw := hw.2 c_24
          refine lv_iconst (v := 1) hx hb dX0_rates_94 (by decide) ?_
          refine lv_goto (tgt := 99) hx hb dX0_rates_95 (by decide) ?_
          exact kwc_rates_J99 X hr hz hh0 _ _ _ _ _ _ _ hky6_12 P (lv_sub hl [0, 1, 2, 3, 4, 5] rfl) hw hKh67_12
def wc_rates_J59 (Kd : tK) (T : tT) (F : tF) (Ar : tA) (y3_10 : Int32) (y4_10 : Int32) (y5_10 : Int32) (y6_10 : Nat) (z0_10 : Int32) (Q : Int32 → tF → tA → Prop) : Prop :=
  ((z0_10 = 0 → Q (-13) F Ar) ∧ (¬ z0_10 = 0 → (∃ n67, wc_rates_L67 Kd T y3_10 y4_10 y6_10 Q n67 F Ar y5_10 0)))
set_option maxHeartbeats 4000000 in
theorem kwc_rates_J59 {Q : Int32 → tF → tA → Prop} (X : cCx p s m args meth c cX0_rates 9 RX0 D G) (hr : meth.sig.returnType = (some .int)) (hz : zTh (cReg G ad Kd U zz s.heap.size) s s.heap) (hh0 : c.exceptionTable.toList.map (fun h => (h.startPc, h.endPc, h.handlerPc, h.catchType)) = [(38, 168, 169, 343)]) {F : tF} {Ar : tA} (y3_10 : Int32) (y4_10 : Int32) (y5_10 : Int32) (y6_10 : Nat) (z0_10 : Int32) (hky6_10 : y6_10 < 4) {H : Heap} {locs : List Loc} {ls : Array Slot} (P : cP D (cReg G ad Kd U zz s.heap.size) G ad s.heap Kd U T zz F Ar H locs) (hl : lv_has ls 9 [(0, .ref (ad 0)), (3, .int y3_10), (4, .int y4_10), (5, .int y5_10), (6, .ref (ad (40 + y6_10)))]) (hw : wc_rates_J59 Kd T F Ar y3_10 y4_10 y5_10 y6_10 z0_10 Q) : W p l e ({ frames := 6, cells := 1, slots := 7, locals := 126 }) s m args below meth c H locs 0 0 (MQ below (cQi D G ad Kd U T zz s.heap.size Q) args s 1 7 (cReg G ad Kd U zz s.heap.size)) (F0 m 59 ls [.int z0_10]) := by
  obtain ⟨hx, hb, hml, hown, hts, -, hlk, -⟩ := id X
  have S : CallFix p m c _ _ s args lw_all RX0 := ⟨hx, hb, hml, hown, hts⟩
  refine lv_bipush (v := (-13)) hx hb dX0_rates_59 (by decide) ?_
  refine c_need X P hz ⟨Nat.le_of_ble_eq_true rfl, Nat.le_of_ble_eq_true rfl⟩ ⟨Nat.le_of_ble_eq_true rfl, Nat.le_of_ble_eq_true rfl⟩ hl.1 (Nat.le_of_ble_eq_true rfl) dX0_rates_61 (fun c_11 ao H locs P hO => ?_) (fun c_11 locs P => ?_)
  · replace hw := hw.1 c_11
    refine c_caught X hh0 rfl hO ?_
    refine lv_astore (lv' := [(6, .ref ao), (0, .ref (ad 0)), (3, .int y3_10), (4, .int y4_10), (5, .int y5_10)]) hx hb dX0_rates_169 hl (by decide) rfl (fun ls hl => ?_)
    refine lv_aload hx hb dX0_rates_171 (lv_at hl 0 rfl) ?_
    refine c_oget X hO dX0_rates_173 ?_
    exact c_iret X P hr hw dX0_rates_176
  replace hw := hw.2 c_11
  refine lv_iconst (v := 0) hx hb dX0_rates_64 (by decide) ?_
  refine lv_istore (lv' := [(7, .int 0), (0, .ref (ad 0)), (3, .int y3_10), (4, .int y4_10), (5, .int y5_10), (6, .ref (ad (40 + y6_10)))]) hx hb dX0_rates_65 hl (by decide) rfl (fun ls hl => ?_)
  obtain ⟨n_25, hw⟩ := hw
  refine kwc_rates_L67 _ X hr hz hh0 _ _ _ _   hky6_10  n_25 _ _ _ _ _ _ _ P (lv_sub hl [1, 2, 3, 4, 5, 0] rfl) hw
def wc_rates (Kd : tK) (T : tT) (F : tF) (Ar : tA) (a1 : Int32) (a2 : Int32) (a3 : Int32) (a4 : Int32) (Q : Int32 → tF → tA → Prop) : Prop :=
  wc_isSheet a1 (fun r_1 => ((r_1 = 0 → Q (-2) F Ar) ∧ (¬ r_1 = 0 → wc_in (a2.toInt64) 0 2 (fun r_3 => ((r_3 = 0 → Q (-2) F Ar) ∧ (¬ r_3 = 0 → wc_in (a4.toInt64) 0 10 (fun r_5 => ((¬ r_5 = 0 → vp_in a1 4 ∧ ((F (40 + 2 * (a1.toNatClampNeg)) < 0 → Q (-11) F Ar) ∧ (¬ F (40 + 2 * (a1.toNatClampNeg)) < 0 → ((¬ (F (40 + 2 * (a1.toNatClampNeg))) = a2 → (wc_rates_J59 Kd T F Ar a3 a4 0 (a1.toNatClampNeg) 0 Q)) ∧ ((F (40 + 2 * (a1.toNatClampNeg))) = a2 → (wc_rates_J59 Kd T F Ar a3 a4 0 (a1.toNatClampNeg) 1 Q)))))) ∧ (r_5 = 0 → Q (-2) F Ar)))))))))
set_option maxHeartbeats 4000000 in
theorem twc_rates (l : Launch) (D : va_G) (G ad : Nat → Nat) (Kd : tK) (U : tU) (T : tT) (zz : Int32) (F : tF) (Ar : tA) (a1 : Int32) (a2 : Int32) (a3 : Int32) (a4 : Int32) (sz : Nat) (Q : Int32 → tF → tA → Prop) (hw : wc_rates Kd T F Ar a1 a2 a3 a4 Q) : Met l yX0_rates (wsW_ yX0_rates cX0_rates 9 (some .int) [(38, 168, 169, 343)]) ({ frames := 6, cells := 1, slots := 7, locals := 126 }) (va_Pc [.ref (ad 0), .int a1, .int a2, .int a3, .int a4] (cPz D G ad Kd U T zz F Ar sz)) (cQi D G ad Kd U T zz sz Q) 1 7 (cReg G ad Kd U zz sz) := by
  refine c_entryX (by decide) (Nat.le_of_ble_eq_true rfl) ?_
  intro p e s m args below meth c ls X hr hsz P hl hz hh0
  subst hsz
  have X : cCx p s m args meth c cX0_rates 9 RX0 D G := X
  obtain ⟨hx, hb, hml, hown, hts, -, hlk, -⟩ := id X
  have S : CallFix p m c _ _ s _ lw_all RX0 := ⟨hx, hb, hml, hown, hts⟩
  have hl : lv_has ls 9 [(0, .ref (ad 0)), (1, .int a1), (2, .int a2), (3, .int a3), (4, .int a4)] := hl
  refine lv_iload_n hx hb dX0_rates_0 rfl (lv_at hl 1 rfl) ?_
  refine cwc_isSheet S hw ⟨Nat.le_of_ble_eq_true rfl, Nat.le_of_ble_eq_true rfl⟩ ⟨Nat.zero_le _, Nat.zero_le _⟩ hl.1 (Nat.le_of_ble_eq_true rfl) dX0_rates_1 (fun r_1 hw => ?_)
  refine lv_if_eq (tgt := 32) hx hb dX0_rates_4 (by decide) (fun c_2 => ?_) (fun c_2 => ?_)
  · replace hw := hw.1 c_2
    refine lv_bipush (v := (-2)) hx hb dX0_rates_32 (by decide) ?_
    refine W.widen (k := 1) (n := 7) (Nat.zero_le _) (Nat.zero_le _) ?_
    exact c_iret X P hr hw dX0_rates_34
  · replace hw := hw.2 c_2
    refine lv_iload_n hx hb dX0_rates_7 rfl (lv_at hl 2 rfl) ?_
    refine lv_i2l hx hb dX0_rates_8 rfl ?_
    refine lv_lconst (v := 0) hx hb dX0_rates_9 (by decide) ?_
    refine lv_ldc2 (v := 2) hx hb hown (hts _ q1108) dX0_rates_10 ?_
    refine cwc_in S hw ⟨Nat.le_of_ble_eq_true rfl, Nat.le_of_ble_eq_true rfl⟩ ⟨Nat.zero_le _, Nat.zero_le _⟩ hl.1 (Nat.le_of_ble_eq_true rfl) dX0_rates_13 (fun r_3 hw => ?_)
    refine lv_if_eq (tgt := 32) hx hb dX0_rates_16 (by decide) (fun c_4 => ?_) (fun c_4 => ?_)
    · replace hw := hw.1 c_4
      refine lv_bipush (v := (-2)) hx hb dX0_rates_32 (by decide) ?_
      refine W.widen (k := 1) (n := 7) (Nat.zero_le _) (Nat.zero_le _) ?_
      exact c_iret X P hr hw dX0_rates_34
    · replace hw := hw.2 c_4
      refine lv_iload hx hb dX0_rates_19 (lv_at hl 4 rfl) ?_
      refine lv_i2l hx hb dX0_rates_21 rfl ?_
      refine lv_lconst (v := 0) hx hb dX0_rates_22 (by decide) ?_
      refine lv_ldc2 (v := 10) hx hb hown (hts _ q1157) dX0_rates_23 ?_
      refine cwc_in S hw ⟨Nat.le_of_ble_eq_true rfl, Nat.le_of_ble_eq_true rfl⟩ ⟨Nat.zero_le _, Nat.zero_le _⟩ hl.1 (Nat.le_of_ble_eq_true rfl) dX0_rates_26 (fun r_5 hw => ?_)
      refine lv_if_ne (tgt := 35) hx hb dX0_rates_29 (by decide) (fun c_6 => ?_) (fun c_6 => ?_)
      · replace hw := hw.1 c_6
        refine lv_iconst (v := 0) hx hb dX0_rates_35 (by decide) ?_
        refine lv_istore (lv' := [(5, .int 0), (0, .ref (ad 0)), (1, .int a1), (2, .int a2), (3, .int a3), (4, .int a4)]) hx hb dX0_rates_36 hl (by decide) rfl (fun ls hl => ?_)
        refine lv_aload_n hx hb dX0_rates_38 rfl (lv_at hl 1 rfl) ?_
        refine lv_iload_n hx hb dX0_rates_39 rfl (lv_at hl 2 rfl) ?_
        refine c_there X P hz hw.1 ⟨Nat.le_of_ble_eq_true rfl, Nat.le_of_ble_eq_true rfl⟩ ⟨Nat.le_of_ble_eq_true rfl, Nat.le_of_ble_eq_true rfl⟩ hl.1 (Nat.le_of_ble_eq_true rfl) dX0_rates_40 (fun c_7 ao H locs P hO => ?_) (fun c_7 locs hk_8 P => ?_)
        all_goals replace hw := hw.2
        · replace hw := hw.1 c_7
          refine c_caught X hh0 rfl hO ?_
          refine lv_astore (lv' := [(6, .ref ao), (5, .int 0), (0, .ref (ad 0)), (1, .int a1), (2, .int a2), (3, .int a3), (4, .int a4)]) hx hb dX0_rates_169 hl (by decide) rfl (fun ls hl => ?_)
          refine lv_aload hx hb dX0_rates_171 (lv_at hl 0 rfl) ?_
          refine c_oget X hO dX0_rates_173 ?_
          exact c_iret X P hr hw dX0_rates_176
        replace hw := hw.2 c_7
        refine lv_astore (lv' := [(6, .ref (ad (40 + (a1.toNatClampNeg)))), (5, .int 0), (0, .ref (ad 0)), (1, .int a1), (2, .int a2), (3, .int a3), (4, .int a4)]) hx hb dX0_rates_43 hl (by decide) rfl (fun ls hl => ?_)
        refine lv_aload hx hb dX0_rates_45 (lv_at hl 0 rfl) ?_
        refine c_sg_sort X P hk_8 dX0_rates_47 ?_
        refine lv_iload_n hx hb dX0_rates_50 rfl (lv_at hl 4 rfl) ?_
        refine lv_icmp_ne (tgt := 58) hx hb dX0_rates_51 (by decide) (fun c_9 => ?_) (fun c_9 => ?_)
        · replace hw := hw.1 c_9
          refine lv_iconst (v := 0) hx hb dX0_rates_58 (by decide) ?_
          exact kwc_rates_J59 X hr hz hh0 _ _ _ _ _ hk_8 P (lv_sub hl [2, 5, 6, 1, 0] rfl) hw
        · replace hw := hw.2 c_9
          refine lv_iconst (v := 1) hx hb dX0_rates_54 (by decide) ?_
          refine lv_goto (tgt := 59) hx hb dX0_rates_55 (by decide) ?_
          exact kwc_rates_J59 X hr hz hh0 _ _ _ _ _ hk_8 P (lv_sub hl [2, 5, 6, 1, 0] rfl) hw
      · replace hw := hw.2 c_6
        refine lv_bipush (v := (-2)) hx hb dX0_rates_32 (by decide) ?_
        refine W.widen (k := 1) (n := 7) (Nat.zero_le _) (Nat.zero_le _) ?_
        exact c_iret X P hr hw dX0_rates_34
end CX
