/-! by gen/comp.py: methods of the class that call trial -/
set_option maxRecDepth 100000
section CT
variable {p : Program} {l : Launch} {e : Env} {R : Room} {s : State} {m : MethodId} {args : Array Value} {below : List Frame} {meth : Method} {c : Code}
variable {cc : ByteArray} {nL pc : Nat} {ls : Array Slot} {rest : List Value} {D : va_G} {G ad : Nat → Nat} {Kd : tK} {U : tU} {T : tT} {zz : Int32}
-- other
def wc_other_J65 (Kd : tK) (T : tT) (F : tF) (Ar : tA) (y2_15 : Int32) (y3_15 : Int32) (z0_15 : Nat) (Q : Int32 → tK → tF → tA → Prop) : Prop :=
  vp_in y2_15 16 ∧ ∀ Ar_16 : tA, Ar_16 = aset Ar (wa z0_15) y2_15.toNatClampNeg (vp_nar .byte (y3_15.toInt8.toInt32)) → wc_runs Kd T F Ar_16 z0_15 (fun F_18 Ar_19 => wc_cost Kd T F_18 Ar_19 z0_15 y2_15 (fun r_20 F_21 Ar_22 => Q r_20 Kd F_21 Ar_22))
set_option maxHeartbeats 4000000 in
theorem kwc_other_J65 {Q : Int32 → tK → tF → tA → Prop} {QC : Array Value → State → Outcome → State → Prop} {A : Nat → Prop} {ad0 : Nat → Nat} {Kd0 : tK} (X : cCx p s m args meth c cX0_other 5 RX0 D G) (hr : meth.sig.returnType = (some .int)) (hA : ∀ q, s.heap.size ≤ q → A q) (hret : ∀ (r : Int32) (ad : Nat → Nat) (Kd : tK) (F : tF) (Ar : tA) (H : Heap) (locs : List Loc) (t : State), Q r Kd F Ar → cP D A G ad s.heap Kd U T zz F Ar H locs → cAg G U zz ad0 Kd0 ad Kd → t.heap = H → QC args s (.returned (some (.int r))) t) {F : tF} {Ar : tA} (y2_15 : Int32) (y3_15 : Int32) (z0_15 : Nat) (hkz0_15 : Kd z0_15 ≠ none) {cells slots : Nat} (hag : cAg G U zz ad0 Kd0 ad Kd) (hC : (cells + 2 * 0 ≤ 2 ∧ slots + 19 * 0 ≤ 19)) {H : Heap} {locs : List Loc} {ls : Array Slot} (P : cP D A G ad s.heap Kd U T zz F Ar H locs) (hl : lv_has ls 5 [(0, .ref (ad 0)), (2, .int y2_15), (3, .int y3_15)]) (hw : wc_other_J65 Kd T F Ar y2_15 y3_15 z0_15 Q) : W p l e ({ frames := 203, cells := 2, slots := 19, locals := 4675 }) s m args below meth c H locs cells slots (MQ below QC args s 2 19 A) (F0 m 65 ls [.ref (ad (wo z0_15))]) := by
  obtain ⟨hx, hb, hml, hown, hts, -, hlk, -⟩ := id X
  have S : CallFix p m c _ _ s args lw_all RX0 := ⟨hx, hb, hml, hown, hts⟩
  refine lv_astore (lv' := [(4, .ref (ad (wo z0_15))), (0, .ref (ad 0)), (2, .int y2_15), (3, .int y3_15)]) hx hb dX0_other_65 hl (by decide) rfl (fun ls hl => ?_)
  refine lv_aload hx hb dX0_other_67 (lv_at hl 0 rfl) ?_
  refine c_wg_choice X P hkz0_15 dX0_other_69 ?_
  refine lv_iload_n hx hb dX0_other_72 rfl (lv_at hl 2 rfl) ?_
  refine lv_iload_n hx hb dX0_other_73 rfl (lv_at hl 3 rfl) ?_
  refine lv_i2b hx hb dX0_other_74 rfl ?_
  refine c_bast X P (c_warr P hkz0_15) hw.1 dX0_other_75 (fun Ar_16 H locs eAr_16 P _ => ?_)
  replace hw := hw.2
  replace hw := hw Ar_16 eAr_16
  refine lv_aload_n hx hb dX0_other_76 rfl (lv_at hl 1 rfl) ?_
  refine lv_aload hx hb dX0_other_77 (lv_at hl 0 rfl) ?_
  refine cwc_runs X P hA hw ⟨Nat.le_of_ble_eq_true rfl, Nat.le_of_ble_eq_true rfl⟩ ⟨Nat.le_trans (Nat.le_add_right _ _) hC.1, Nat.le_trans (Nat.le_add_right _ _) hC.2⟩ hl.1 (Nat.le_of_ble_eq_true rfl) dX0_other_79 (fun F_18 Ar_19 H locs hw P => ?_)
  refine lv_aload_n hx hb dX0_other_82 rfl (lv_at hl 1 rfl) ?_
  refine lv_aload hx hb dX0_other_83 (lv_at hl 0 rfl) ?_
  refine lv_iload_n hx hb dX0_other_85 rfl (lv_at hl 2 rfl) ?_
  refine cwc_cost X P hA hw ⟨Nat.le_of_ble_eq_true rfl, Nat.le_of_ble_eq_true rfl⟩ ⟨Nat.le_trans (Nat.le_add_right _ _) hC.1, Nat.le_trans (Nat.le_add_right _ _) hC.2⟩ hl.1 (Nat.le_of_ble_eq_true rfl) dX0_other_86 (fun r_20 F_21 Ar_22 H locs hw P => ?_)
  refine W.widen (k := 2) (n := 19) (Nat.le_trans (Nat.le_add_right _ _) hC.1) (Nat.le_trans (Nat.le_add_right _ _) hC.2) ?_
  exact W.iret hx hb hr (fun t ht hW => hret _ _ _ _ _ _ _ t hw P hag ht) P.2.2.1.2.2 dX0_other_89 hlk
def wc_other_J0 (Kd : tK) (T : tT) (F : tF) (Ar : tA) (y1_1 : Int32) (y2_1 : Int32) (y3_1 : Int32) (Q : Int32 → tK → tF → tA → Prop) : Prop :=
  wc_isWay Kd T F Ar y1_1 (fun r_2 => ((r_2 = 0 → Q (-10000) Kd F Ar) ∧ (¬ r_2 = 0 → (¬ y1_1 < 0 ∧ y1_1 < F 32) ∧ wc_in (y2_1.toInt64) 0 (((F (wa (y1_1.toNatClampNeg))).toInt64) - 1) (fun r_5 => ((r_5 = 0 → Q (-10000) Kd F Ar) ∧ (¬ r_5 = 0 → wc_in (y3_1.toInt64) 0 48 (fun r_7 => ((¬ r_7 = 0 → (¬ y1_1 < 0 ∧ y1_1 < F 32) ∧ trOK Kd Ar (y1_1.toNatClampNeg) ∧ ∀ (k_10 : Nat) (Kd_11 : tK) (F_12 : tF) (Ar_13 : tA), trOut Kd F Ar (y1_1.toNatClampNeg) k_10 Kd_11 F_12 Ar_13 → (wc_other_J65 Kd_11 T F_12 Ar_13 y2_1 y3_1 (8 + k_10) Q)) ∧ (r_7 = 0 → Q (-10000) Kd F Ar)))))))))
set_option maxHeartbeats 4000000 in
theorem kwc_other_J0 {Q : Int32 → tK → tF → tA → Prop} {QC : Array Value → State → Outcome → State → Prop} {A : Nat → Prop} {ad0 : Nat → Nat} {Kd0 : tK} (X : cCx p s m args meth c cX0_other 5 RX0 D G) (hr : meth.sig.returnType = (some .int)) (hA : ∀ q, s.heap.size ≤ q → A q) (hret : ∀ (r : Int32) (ad : Nat → Nat) (Kd : tK) (F : tF) (Ar : tA) (H : Heap) (locs : List Loc) (t : State), Q r Kd F Ar → cP D A G ad s.heap Kd U T zz F Ar H locs → cAg G U zz ad0 Kd0 ad Kd → t.heap = H → QC args s (.returned (some (.int r))) t) {F : tF} {Ar : tA} (y1_1 : Int32) (y2_1 : Int32) (y3_1 : Int32) {cells slots : Nat} (hag : cAg G U zz ad0 Kd0 ad Kd) (hC : (cells + 2 * 1 ≤ 2 ∧ slots + 19 * 1 ≤ 19)) {H : Heap} {locs : List Loc} {ls : Array Slot} (P : cP D A G ad s.heap Kd U T zz F Ar H locs) (hl : lv_has ls 5 [(0, .ref (ad 0)), (1, .int y1_1), (2, .int y2_1), (3, .int y3_1)]) (hw : wc_other_J0 Kd T F Ar y1_1 y2_1 y3_1 Q) : W p l e ({ frames := 203, cells := 2, slots := 19, locals := 4675 }) s m args below meth c H locs cells slots (MQ below QC args s 2 19 A) (F0 m 0 ls []) := by
  obtain ⟨hx, hb, hml, hown, hts, -, hlk, -⟩ := id X
  have S : CallFix p m c _ _ s args lw_all RX0 := ⟨hx, hb, hml, hown, hts⟩
  refine lv_aload_n hx hb dX0_other_0 rfl (lv_at hl 0 rfl) ?_
  refine lv_iload_n hx hb dX0_other_1 rfl (lv_at hl 1 rfl) ?_
  refine cwc_isWay X P hA hw ⟨Nat.le_of_ble_eq_true rfl, Nat.le_of_ble_eq_true rfl⟩ ⟨Nat.le_trans (Nat.le_add_right _ _) hC.1, Nat.le_trans (Nat.le_add_right _ _) hC.2⟩ hl.1 (Nat.le_of_ble_eq_true rfl) dX0_other_2 (fun r_2 hw => ?_)
  refine lv_if_eq (tgt := 46) hx hb dX0_other_5 (by decide) (fun c_3 => ?_) (fun c_3 => ?_)
  · replace hw := hw.1 c_3
    refine lv_sipush (v := (-10000)) hx hb dX0_other_46 (by decide) ?_
    refine W.widen (k := 2) (n := 19) (Nat.le_trans (Nat.le_add_right _ _) hC.1) (Nat.le_trans (Nat.le_add_right _ _) hC.2) ?_
    exact W.iret hx hb hr (fun t ht hW => hret _ _ _ _ _ _ _ t hw P hag ht) P.2.2.1.2.2 dX0_other_49 hlk
  · replace hw := hw.2 c_3
    refine lv_iload_n hx hb dX0_other_8 rfl (lv_at hl 2 rfl) ?_
    refine lv_i2l hx hb dX0_other_9 rfl ?_
    refine lv_lconst (v := 0) hx hb dX0_other_10 (by decide) ?_
    refine lv_aload_n hx hb dX0_other_11 rfl (lv_at hl 0 rfl) ?_
    refine cg_ways X P dX0_other_12 ?_
    refine lv_iload_n hx hb dX0_other_15 rfl (lv_at hl 1 rfl) ?_
    refine c_lget X P hw.1.1 hw.1.2 ⟨Nat.le_of_ble_eq_true rfl, Nat.le_of_ble_eq_true rfl⟩ hl.1 (Nat.le_of_ble_eq_true rfl) ⟨Nat.le_trans (Nat.le_add_right _ _) hC.1, Nat.le_trans (Nat.le_add_right _ _) hC.2⟩ dX0_other_16 (fun hk_4 => ?_)
    replace hw := hw.2
    refine c_castW X P hk_4 dX0_other_19 ?_
    refine c_wg_carts X P hk_4 dX0_other_22 ?_
    refine lv_i2l hx hb dX0_other_25 rfl ?_
    refine lv_lconst (v := 1) hx hb dX0_other_26 (by decide) ?_
    refine lv_lsub hx hb dX0_other_27 ?_
    refine cwc_in S hw ⟨Nat.le_of_ble_eq_true rfl, Nat.le_of_ble_eq_true rfl⟩ ⟨Nat.le_trans (Nat.le_add_right _ _) hC.1, Nat.le_trans (Nat.le_add_right _ _) hC.2⟩ hl.1 (Nat.le_of_ble_eq_true rfl) dX0_other_28 (fun r_5 hw => ?_)
    refine lv_if_eq (tgt := 46) hx hb dX0_other_31 (by decide) (fun c_6 => ?_) (fun c_6 => ?_)
    · replace hw := hw.1 c_6
      refine lv_sipush (v := (-10000)) hx hb dX0_other_46 (by decide) ?_
      refine W.widen (k := 2) (n := 19) (Nat.le_trans (Nat.le_add_right _ _) hC.1) (Nat.le_trans (Nat.le_add_right _ _) hC.2) ?_
      exact W.iret hx hb hr (fun t ht hW => hret _ _ _ _ _ _ _ t hw P hag ht) P.2.2.1.2.2 dX0_other_49 hlk
    · replace hw := hw.2 c_6
      refine lv_iload_n hx hb dX0_other_34 rfl (lv_at hl 3 rfl) ?_
      refine lv_i2l hx hb dX0_other_35 rfl ?_
      refine lv_lconst (v := 0) hx hb dX0_other_36 (by decide) ?_
      refine lv_ldc2 (v := 48) hx hb hown (hts _ q795) dX0_other_37 ?_
      refine cwc_in S hw ⟨Nat.le_of_ble_eq_true rfl, Nat.le_of_ble_eq_true rfl⟩ ⟨Nat.le_trans (Nat.le_add_right _ _) hC.1, Nat.le_trans (Nat.le_add_right _ _) hC.2⟩ hl.1 (Nat.le_of_ble_eq_true rfl) dX0_other_40 (fun r_7 hw => ?_)
      refine lv_if_ne (tgt := 50) hx hb dX0_other_43 (by decide) (fun c_8 => ?_) (fun c_8 => ?_)
      · replace hw := hw.1 c_8
        refine lv_aload_n hx hb dX0_other_50 rfl (lv_at hl 0 rfl) ?_
        refine lv_aload_n hx hb dX0_other_51 rfl (lv_at hl 0 rfl) ?_
        refine cg_ways X P dX0_other_52 ?_
        refine lv_iload_n hx hb dX0_other_55 rfl (lv_at hl 1 rfl) ?_
        refine c_lget X P hw.1.1 hw.1.2 ⟨Nat.le_of_ble_eq_true rfl, Nat.le_of_ble_eq_true rfl⟩ hl.1 (Nat.le_of_ble_eq_true rfl) ⟨Nat.le_trans (Nat.le_add_right _ _) hC.1, Nat.le_trans (Nat.le_add_right _ _) hC.2⟩ dX0_other_56 (fun hk_9 => ?_)
        replace hw := hw.2
        refine c_castW X P hk_9 dX0_other_59 ?_
        refine c_trial X P hA hag hk_9 hw.1 ⟨Nat.le_of_ble_eq_true rfl, Nat.le_of_ble_eq_true rfl⟩ ⟨Nat.le_trans (show cells + 2 ≤ cells + 2 * 1 by omega) hC.1, Nat.le_trans (show slots + 19 ≤ slots + 19 * 1 by omega) hC.2⟩ hl.1 (Nat.le_of_ble_eq_true rfl) dX0_other_62 (fun k_10 ad1 Kd_11 F_12 Ar_13 H locs ho hk_14 hag hway e0 P => ?_)
        replace hw := hw.2 k_10 Kd_11 F_12 Ar_13 ho
        replace hl := lv_sub hl [0, 2, 3] rfl
        rw [← e0] at hl
        have hC : cells + 2 + 2 * 0 ≤ 2 ∧ slots + 19 + 19 * 0 ≤ 19 := ⟨by have := hC.1; omega, by have := hC.2; omega⟩
        exact kwc_other_J65 X hr hA hret _ _ _ hk_14 hag hC P (lv_sub hl [0, 1, 2] rfl) hw
      · replace hw := hw.2 c_8
        refine lv_sipush (v := (-10000)) hx hb dX0_other_46 (by decide) ?_
        refine W.widen (k := 2) (n := 19) (Nat.le_trans (Nat.le_add_right _ _) hC.1) (Nat.le_trans (Nat.le_add_right _ _) hC.2) ?_
        exact W.iret hx hb hr (fun t ht hW => hret _ _ _ _ _ _ _ t hw P hag ht) P.2.2.1.2.2 dX0_other_49 hlk
def wc_other (Kd : tK) (T : tT) (F : tF) (Ar : tA) (a1 : Int32) (a2 : Int32) (a3 : Int32) (Q : Int32 → tK → tF → tA → Prop) : Prop :=
  (wc_other_J0 Kd T F Ar a1 a2 a3 Q)
set_option maxHeartbeats 4000000 in
theorem twc_other (l : Launch) (D : va_G) (G ad : Nat → Nat) (Kd : tK) (U : tU) (T : tT) (zz : Int32) (F : tF) (Ar : tA) (a1 : Int32) (a2 : Int32) (a3 : Int32) (sz : Nat) (Q : Int32 → tK → tF → tA → Prop) (hw : wc_other Kd T F Ar a1 a2 a3 Q) : Met l yX0_other (ws_ yX0_other cX0_other 5 (some .int)) ({ frames := 203, cells := 2, slots := 19, locals := 4675 }) (va_Pc [.ref (ad 0), .int a1, .int a2, .int a3] (cPb D G ad Kd U T zz F Ar sz)) (va_Qi (fun r (u : tM) => Q r u.2.1 u.2.2.1 u.2.2.2) (cBM D G ad Kd U T zz sz) (cReg G ad Kd U zz sz)) 2 19 (cReg G ad Kd U zz sz) := by
  refine c_entry (by decide) (Nat.le_of_ble_eq_true rfl) ?_
  intro p e s m args below meth c ls X hr hsz P hl
  subst hsz
  have X : cCx p s m args meth c cX0_other 5 RX0 D G := X
  have hl : lv_has ls 5 [(0, .ref (ad 0)), (1, .int a1), (2, .int a2), (3, .int a3)] := hl
  have hA : ∀ q, s.heap.size ≤ q → cReg G ad Kd U zz s.heap.size q := fun q h => Or.inr h
  have hag : cAg G U zz ad Kd ad Kd := ⟨fun k hk => ⟨rfl, hk⟩, fun _ => rfl⟩
  have hC : 0 + 2 * 1 ≤ 2 ∧ 0 + 19 * 1 ≤ 19 := ⟨Nat.le_of_ble_eq_true rfl, Nat.le_of_ble_eq_true rfl⟩
  have hret : ∀ (r : Int32) (ad1 : Nat → Nat) (Kd1 : tK) (F : tF) (Ar : tA) (H : Heap) (locs : List Loc) (t : State), Q r Kd1 F Ar → cP D (cReg G ad Kd U zz s.heap.size) G ad1 s.heap Kd1 U T zz F Ar H locs → cAg G U zz ad Kd ad1 Kd1 → t.heap = H → (va_Qi (fun r (u : tM) => Q r u.2.1 u.2.2.1 u.2.2.2) (cBM D G ad Kd U T zz s.heap.size) (cReg G ad Kd U zz s.heap.size)) args s (.returned (some (.int r))) t := fun r ad1 Kd1 F Ar H locs t hq P hag ht => ⟨⟨r, (ad1, Kd1, F, Ar), rfl, hq, by show gw_P _ _ _ _ t.heap; rw [ht]; exact P.1, P.2.1, P.2.2.2, fun k hk => (hag.1 k hk).1, hag.2⟩, P.2.2.1.F ht⟩
  exact kwc_other_J0 X hr hA hret _ _ _ hag hC P (lv_sub hl [0, 1, 2, 3] rfl) hw
-- swap
def wc_swap_J114 (Kd : tK) (T : tT) (F : tF) (Ar : tA) (y2_27 : Int32) (y3_27 : Int32) (y4_27 : Nat) (y5_27 : Int32) (y6_27 : Int32) (z0_27 : Nat) (Q : Int32 → tK → tF → tA → Prop) : Prop :=
  vp_in y3_27 16 ∧ vp_in y2_27 16 ∧ ∀ Ar_28 : tA, Ar_28 = aset Ar (wa z0_27) y2_27.toNatClampNeg (vp_nar .byte (Ar (wa y4_27) y3_27.toNatClampNeg)) → vp_in y2_27 16 ∧ vp_in y3_27 16 ∧ ∀ Ar_29 : tA, Ar_29 = aset Ar_28 (wa z0_27) y3_27.toNatClampNeg (vp_nar .byte (Ar_28 (wa y4_27) y2_27.toNatClampNeg)) → wc_runs Kd T F Ar_29 z0_27 (fun F_31 Ar_32 => wc_cost Kd T F_31 Ar_32 z0_27 y2_27 (fun r_33 F_34 Ar_35 => ((y5_27 ≤ r_33 → Q 0 Kd F_34 Ar_35) ∧ (¬ y5_27 ≤ r_33 → wc_cost Kd T F_34 Ar_35 z0_27 y3_27 (fun r_37 F_38 Ar_39 => ((r_37 < y6_27 → (∀ j, j < 16 → fits .byte (.int (Ar_39 (wa z0_27) j)) = true) ∧ ∀ (F_41 : tF) (Ar_42 : tA), F_41 = beF F_38 y4_27 z0_27 → Ar_42 = beA Ar_39 y4_27 z0_27 → Q 1 Kd F_41 Ar_42) ∧ (¬ r_37 < y6_27 → Q 0 Kd F_38 Ar_39)))))))
set_option maxHeartbeats 4000000 in
theorem kwc_swap_J114 {Q : Int32 → tK → tF → tA → Prop} {QC : Array Value → State → Outcome → State → Prop} {A : Nat → Prop} {ad0 : Nat → Nat} {Kd0 : tK} (X : cCx p s m args meth c cX0_swap 8 RX0 D G) (hr : meth.sig.returnType = (some .int)) (hA : ∀ q, s.heap.size ≤ q → A q) (hret : ∀ (r : Int32) (ad : Nat → Nat) (Kd : tK) (F : tF) (Ar : tA) (H : Heap) (locs : List Loc) (t : State), Q r Kd F Ar → cP D A G ad s.heap Kd U T zz F Ar H locs → cAg G U zz ad0 Kd0 ad Kd → t.heap = H → QC args s (.returned (some (.int r))) t) {F : tF} {Ar : tA} (y2_27 : Int32) (y3_27 : Int32) (y4_27 : Nat) (y5_27 : Int32) (y6_27 : Int32) (z0_27 : Nat) (hky4_27 : Kd y4_27 ≠ none) (hkz0_27 : Kd z0_27 ≠ none) {cells slots : Nat} (hag : cAg G U zz ad0 Kd0 ad Kd) (hC : (cells + 2 * 0 ≤ 2 ∧ slots + 19 * 0 ≤ 19)) {H : Heap} {locs : List Loc} {ls : Array Slot} (P : cP D A G ad s.heap Kd U T zz F Ar H locs) (hl : lv_has ls 8 [(0, .ref (ad 0)), (2, .int y2_27), (3, .int y3_27), (4, .ref (ad (wo y4_27))), (5, .int y5_27), (6, .int y6_27)]) (hw : wc_swap_J114 Kd T F Ar y2_27 y3_27 y4_27 y5_27 y6_27 z0_27 Q) : W p l e ({ frames := 203, cells := 2, slots := 19, locals := 4675 }) s m args below meth c H locs cells slots (MQ below QC args s 2 19 A) (F0 m 114 ls [.ref (ad (wo z0_27))]) := by
  obtain ⟨hx, hb, hml, hown, hts, -, hlk, -⟩ := id X
  have S : CallFix p m c _ _ s args lw_all RX0 := ⟨hx, hb, hml, hown, hts⟩
  refine lv_astore (lv' := [(7, .ref (ad (wo z0_27))), (0, .ref (ad 0)), (2, .int y2_27), (3, .int y3_27), (4, .ref (ad (wo y4_27))), (5, .int y5_27), (6, .int y6_27)]) hx hb dX0_swap_114 hl (by decide) rfl (fun ls hl => ?_)
  refine lv_aload hx hb dX0_swap_116 (lv_at hl 0 rfl) ?_
  refine c_wg_choice X P hkz0_27 dX0_swap_118 ?_
  refine lv_iload_n hx hb dX0_swap_121 rfl (lv_at hl 2 rfl) ?_
  refine lv_aload hx hb dX0_swap_122 (lv_at hl 4 rfl) ?_
  refine c_wg_choice X P hky4_27 dX0_swap_124 ?_
  refine lv_iload_n hx hb dX0_swap_127 rfl (lv_at hl 3 rfl) ?_
  refine c_bald X P (c_warr P hky4_27) hw.1 dX0_swap_128 ?_
  replace hw := hw.2
  refine c_bast X P (c_warr P hkz0_27) hw.1 dX0_swap_129 (fun Ar_28 H locs eAr_28 P _ => ?_)
  replace hw := hw.2
  replace hw := hw Ar_28 eAr_28
  refine lv_aload hx hb dX0_swap_130 (lv_at hl 0 rfl) ?_
  refine c_wg_choice X P hkz0_27 dX0_swap_132 ?_
  refine lv_iload_n hx hb dX0_swap_135 rfl (lv_at hl 3 rfl) ?_
  refine lv_aload hx hb dX0_swap_136 (lv_at hl 4 rfl) ?_
  refine c_wg_choice X P hky4_27 dX0_swap_138 ?_
  refine lv_iload_n hx hb dX0_swap_141 rfl (lv_at hl 2 rfl) ?_
  refine c_bald X P (c_warr P hky4_27) hw.1 dX0_swap_142 ?_
  replace hw := hw.2
  refine c_bast X P (c_warr P hkz0_27) hw.1 dX0_swap_143 (fun Ar_29 H locs eAr_29 P _ => ?_)
  replace hw := hw.2
  replace hw := hw Ar_29 eAr_29
  refine lv_aload_n hx hb dX0_swap_144 rfl (lv_at hl 1 rfl) ?_
  refine lv_aload hx hb dX0_swap_145 (lv_at hl 0 rfl) ?_
  refine cwc_runs X P hA hw ⟨Nat.le_of_ble_eq_true rfl, Nat.le_of_ble_eq_true rfl⟩ ⟨Nat.le_trans (Nat.le_add_right _ _) hC.1, Nat.le_trans (Nat.le_add_right _ _) hC.2⟩ hl.1 (Nat.le_of_ble_eq_true rfl) dX0_swap_147 (fun F_31 Ar_32 H locs hw P => ?_)
  refine lv_aload_n hx hb dX0_swap_150 rfl (lv_at hl 1 rfl) ?_
  refine lv_aload hx hb dX0_swap_151 (lv_at hl 0 rfl) ?_
  refine lv_iload_n hx hb dX0_swap_153 rfl (lv_at hl 2 rfl) ?_
  refine cwc_cost X P hA hw ⟨Nat.le_of_ble_eq_true rfl, Nat.le_of_ble_eq_true rfl⟩ ⟨Nat.le_trans (Nat.le_add_right _ _) hC.1, Nat.le_trans (Nat.le_add_right _ _) hC.2⟩ hl.1 (Nat.le_of_ble_eq_true rfl) dX0_swap_154 (fun r_33 F_34 Ar_35 H locs hw P => ?_)
  refine lv_iload hx hb dX0_swap_157 (lv_at hl 5 rfl) ?_
  refine lv_icmp_ge (tgt := 174) hx hb dX0_swap_159 (by decide) (fun c_36 => ?_) (fun c_36 => ?_)
  · replace hw := hw.1 c_36
    refine lv_iconst (v := 0) hx hb dX0_swap_174 (by decide) ?_
    refine W.widen (k := 2) (n := 19) (Nat.le_trans (Nat.le_add_right _ _) hC.1) (Nat.le_trans (Nat.le_add_right _ _) hC.2) ?_
    exact W.iret hx hb hr (fun t ht hW => hret _ _ _ _ _ _ _ t hw P hag ht) P.2.2.1.2.2 dX0_swap_175 hlk
  · replace hw := hw.2 c_36
    refine lv_aload_n hx hb dX0_swap_162 rfl (lv_at hl 1 rfl) ?_
    refine lv_aload hx hb dX0_swap_163 (lv_at hl 0 rfl) ?_
    refine lv_iload_n hx hb dX0_swap_165 rfl (lv_at hl 3 rfl) ?_
    refine cwc_cost X P hA hw ⟨Nat.le_of_ble_eq_true rfl, Nat.le_of_ble_eq_true rfl⟩ ⟨Nat.le_trans (Nat.le_add_right _ _) hC.1, Nat.le_trans (Nat.le_add_right _ _) hC.2⟩ hl.1 (Nat.le_of_ble_eq_true rfl) dX0_swap_166 (fun r_37 F_38 Ar_39 H locs hw P => ?_)
    refine lv_iload hx hb dX0_swap_169 (lv_at hl 6 rfl) ?_
    refine lv_icmp_lt (tgt := 176) hx hb dX0_swap_171 (by decide) (fun c_40 => ?_) (fun c_40 => ?_)
    · replace hw := hw.1 c_40
      refine lv_aload hx hb dX0_swap_176 (lv_at hl 4 rfl) ?_
      refine lv_aload hx hb dX0_swap_178 (lv_at hl 0 rfl) ?_
      refine c_be X P hA hky4_27 hkz0_27 hw.1 ⟨Nat.le_of_ble_eq_true rfl, Nat.le_of_ble_eq_true rfl⟩ ⟨Nat.le_trans (Nat.le_add_right _ _) hC.1, Nat.le_trans (Nat.le_add_right _ _) hC.2⟩ hl.1 (Nat.le_of_ble_eq_true rfl) dX0_swap_180 (fun F_41 Ar_42 H locs eF_41 eAr_42 P => ?_)
      replace hw := hw.2 F_41 Ar_42 eF_41 eAr_42
      refine lv_iconst (v := 1) hx hb dX0_swap_183 (by decide) ?_
      refine W.widen (k := 2) (n := 19) (Nat.le_trans (Nat.le_add_right _ _) hC.1) (Nat.le_trans (Nat.le_add_right _ _) hC.2) ?_
      exact W.iret hx hb hr (fun t ht hW => hret _ _ _ _ _ _ _ t hw P hag ht) P.2.2.1.2.2 dX0_swap_184 hlk
    · replace hw := hw.2 c_40
      refine lv_iconst (v := 0) hx hb dX0_swap_174 (by decide) ?_
      refine W.widen (k := 2) (n := 19) (Nat.le_trans (Nat.le_add_right _ _) hC.1) (Nat.le_trans (Nat.le_add_right _ _) hC.2) ?_
      exact W.iret hx hb hr (fun t ht hW => hret _ _ _ _ _ _ _ t hw P hag ht) P.2.2.1.2.2 dX0_swap_175 hlk
def wc_swap_J0 (Kd : tK) (T : tT) (F : tF) (Ar : tA) (y1_1 : Int32) (y2_1 : Int32) (y3_1 : Int32) (Q : Int32 → tK → tF → tA → Prop) : Prop :=
  wc_isWay Kd T F Ar y1_1 (fun r_2 => ((r_2 = 0 → Q (-5) Kd F Ar) ∧ (¬ r_2 = 0 → (¬ y1_1 < 0 ∧ y1_1 < F 32) ∧ wc_in (y2_1.toInt64) 0 (((F (wa (y1_1.toNatClampNeg))).toInt64) - 1) (fun r_5 => ((r_5 = 0 → Q (-5) Kd F Ar) ∧ (¬ r_5 = 0 → (¬ y1_1 < 0 ∧ y1_1 < F 32) ∧ wc_in (y3_1.toInt64) 0 (((F (wa (y1_1.toNatClampNeg))).toInt64) - 1) (fun r_8 => ((¬ r_8 = 0 → ((¬ y2_1 = y3_1 → (¬ y1_1 < 0 ∧ y1_1 < F 32) ∧ wc_runs Kd T F Ar (y1_1.toNatClampNeg) (fun F_13 Ar_14 => wc_cost Kd T F_13 Ar_14 (y1_1.toNatClampNeg) y2_1 (fun r_15 F_16 Ar_17 => wc_cost Kd T F_16 Ar_17 (y1_1.toNatClampNeg) y3_1 (fun r_18 F_19 Ar_20 => trOK Kd Ar_20 (y1_1.toNatClampNeg) ∧ ∀ (k_21 : Nat) (Kd_22 : tK) (F_23 : tF) (Ar_24 : tA), trOut Kd F_19 Ar_20 (y1_1.toNatClampNeg) k_21 Kd_22 F_23 Ar_24 → (wc_swap_J114 Kd_22 T F_23 Ar_24 y2_1 y3_1 (y1_1.toNatClampNeg) r_15 r_18 (8 + k_21) Q))))) ∧ (y2_1 = y3_1 → Q (-7) Kd F Ar))) ∧ (r_8 = 0 → Q (-5) Kd F Ar)))))))))
set_option maxHeartbeats 4000000 in
theorem kwc_swap_J0 {Q : Int32 → tK → tF → tA → Prop} {QC : Array Value → State → Outcome → State → Prop} {A : Nat → Prop} {ad0 : Nat → Nat} {Kd0 : tK} (X : cCx p s m args meth c cX0_swap 8 RX0 D G) (hr : meth.sig.returnType = (some .int)) (hA : ∀ q, s.heap.size ≤ q → A q) (hret : ∀ (r : Int32) (ad : Nat → Nat) (Kd : tK) (F : tF) (Ar : tA) (H : Heap) (locs : List Loc) (t : State), Q r Kd F Ar → cP D A G ad s.heap Kd U T zz F Ar H locs → cAg G U zz ad0 Kd0 ad Kd → t.heap = H → QC args s (.returned (some (.int r))) t) {F : tF} {Ar : tA} (y1_1 : Int32) (y2_1 : Int32) (y3_1 : Int32) {cells slots : Nat} (hag : cAg G U zz ad0 Kd0 ad Kd) (hC : (cells + 2 * 1 ≤ 2 ∧ slots + 19 * 1 ≤ 19)) {H : Heap} {locs : List Loc} {ls : Array Slot} (P : cP D A G ad s.heap Kd U T zz F Ar H locs) (hl : lv_has ls 8 [(0, .ref (ad 0)), (1, .int y1_1), (2, .int y2_1), (3, .int y3_1)]) (hw : wc_swap_J0 Kd T F Ar y1_1 y2_1 y3_1 Q) : W p l e ({ frames := 203, cells := 2, slots := 19, locals := 4675 }) s m args below meth c H locs cells slots (MQ below QC args s 2 19 A) (F0 m 0 ls []) := by
  obtain ⟨hx, hb, hml, hown, hts, -, hlk, -⟩ := id X
  have S : CallFix p m c _ _ s args lw_all RX0 := ⟨hx, hb, hml, hown, hts⟩
  refine lv_aload_n hx hb dX0_swap_0 rfl (lv_at hl 0 rfl) ?_
  refine lv_iload_n hx hb dX0_swap_1 rfl (lv_at hl 1 rfl) ?_
  refine cwc_isWay X P hA hw ⟨Nat.le_of_ble_eq_true rfl, Nat.le_of_ble_eq_true rfl⟩ ⟨Nat.le_trans (Nat.le_add_right _ _) hC.1, Nat.le_trans (Nat.le_add_right _ _) hC.2⟩ hl.1 (Nat.le_of_ble_eq_true rfl) dX0_swap_2 (fun r_2 hw => ?_)
  refine lv_if_eq (tgt := 60) hx hb dX0_swap_5 (by decide) (fun c_3 => ?_) (fun c_3 => ?_)
  · replace hw := hw.1 c_3
    refine lv_bipush (v := (-5)) hx hb dX0_swap_60 (by decide) ?_
    refine W.widen (k := 2) (n := 19) (Nat.le_trans (Nat.le_add_right _ _) hC.1) (Nat.le_trans (Nat.le_add_right _ _) hC.2) ?_
    exact W.iret hx hb hr (fun t ht hW => hret _ _ _ _ _ _ _ t hw P hag ht) P.2.2.1.2.2 dX0_swap_62 hlk
  · replace hw := hw.2 c_3
    refine lv_iload_n hx hb dX0_swap_8 rfl (lv_at hl 2 rfl) ?_
    refine lv_i2l hx hb dX0_swap_9 rfl ?_
    refine lv_lconst (v := 0) hx hb dX0_swap_10 (by decide) ?_
    refine lv_aload_n hx hb dX0_swap_11 rfl (lv_at hl 0 rfl) ?_
    refine cg_ways X P dX0_swap_12 ?_
    refine lv_iload_n hx hb dX0_swap_15 rfl (lv_at hl 1 rfl) ?_
    refine c_lget X P hw.1.1 hw.1.2 ⟨Nat.le_of_ble_eq_true rfl, Nat.le_of_ble_eq_true rfl⟩ hl.1 (Nat.le_of_ble_eq_true rfl) ⟨Nat.le_trans (Nat.le_add_right _ _) hC.1, Nat.le_trans (Nat.le_add_right _ _) hC.2⟩ dX0_swap_16 (fun hk_4 => ?_)
    replace hw := hw.2
    refine c_castW X P hk_4 dX0_swap_19 ?_
    refine c_wg_carts X P hk_4 dX0_swap_22 ?_
    refine lv_i2l hx hb dX0_swap_25 rfl ?_
    refine lv_lconst (v := 1) hx hb dX0_swap_26 (by decide) ?_
    refine lv_lsub hx hb dX0_swap_27 ?_
    refine cwc_in S hw ⟨Nat.le_of_ble_eq_true rfl, Nat.le_of_ble_eq_true rfl⟩ ⟨Nat.le_trans (Nat.le_add_right _ _) hC.1, Nat.le_trans (Nat.le_add_right _ _) hC.2⟩ hl.1 (Nat.le_of_ble_eq_true rfl) dX0_swap_28 (fun r_5 hw => ?_)
    refine lv_if_eq (tgt := 60) hx hb dX0_swap_31 (by decide) (fun c_6 => ?_) (fun c_6 => ?_)
    · replace hw := hw.1 c_6
      refine lv_bipush (v := (-5)) hx hb dX0_swap_60 (by decide) ?_
      refine W.widen (k := 2) (n := 19) (Nat.le_trans (Nat.le_add_right _ _) hC.1) (Nat.le_trans (Nat.le_add_right _ _) hC.2) ?_
      exact W.iret hx hb hr (fun t ht hW => hret _ _ _ _ _ _ _ t hw P hag ht) P.2.2.1.2.2 dX0_swap_62 hlk
    · replace hw := hw.2 c_6
      refine lv_iload_n hx hb dX0_swap_34 rfl (lv_at hl 3 rfl) ?_
      refine lv_i2l hx hb dX0_swap_35 rfl ?_
      refine lv_lconst (v := 0) hx hb dX0_swap_36 (by decide) ?_
      refine lv_aload_n hx hb dX0_swap_37 rfl (lv_at hl 0 rfl) ?_
      refine cg_ways X P dX0_swap_38 ?_
      refine lv_iload_n hx hb dX0_swap_41 rfl (lv_at hl 1 rfl) ?_
      refine c_lget X P hw.1.1 hw.1.2 ⟨Nat.le_of_ble_eq_true rfl, Nat.le_of_ble_eq_true rfl⟩ hl.1 (Nat.le_of_ble_eq_true rfl) ⟨Nat.le_trans (Nat.le_add_right _ _) hC.1, Nat.le_trans (Nat.le_add_right _ _) hC.2⟩ dX0_swap_42 (fun hk_7 => ?_)
      replace hw := hw.2
      refine c_castW X P hk_7 dX0_swap_45 ?_
      refine c_wg_carts X P hk_7 dX0_swap_48 ?_
      refine lv_i2l hx hb dX0_swap_51 rfl ?_
      refine lv_lconst (v := 1) hx hb dX0_swap_52 (by decide) ?_
      refine lv_lsub hx hb dX0_swap_53 ?_
      refine cwc_in S hw ⟨Nat.le_of_ble_eq_true rfl, Nat.le_of_ble_eq_true rfl⟩ ⟨Nat.le_trans (Nat.le_add_right _ _) hC.1, Nat.le_trans (Nat.le_add_right _ _) hC.2⟩ hl.1 (Nat.le_of_ble_eq_true rfl) dX0_swap_54 (fun r_8 hw => ?_)
      refine lv_if_ne (tgt := 63) hx hb dX0_swap_57 (by decide) (fun c_9 => ?_) (fun c_9 => ?_)
      · replace hw := hw.1 c_9
        refine lv_iload_n hx hb dX0_swap_63 rfl (lv_at hl 2 rfl) ?_
        refine lv_iload_n hx hb dX0_swap_64 rfl (lv_at hl 3 rfl) ?_
        refine lv_icmp_ne (tgt := 71) hx hb dX0_swap_65 (by decide) (fun c_10 => ?_) (fun c_10 => ?_)
        · replace hw := hw.1 c_10
          refine lv_aload_n hx hb dX0_swap_71 rfl (lv_at hl 0 rfl) ?_
          refine cg_ways X P dX0_swap_72 ?_
          refine lv_iload_n hx hb dX0_swap_75 rfl (lv_at hl 1 rfl) ?_
          refine c_lget X P hw.1.1 hw.1.2 ⟨Nat.le_of_ble_eq_true rfl, Nat.le_of_ble_eq_true rfl⟩ hl.1 (Nat.le_of_ble_eq_true rfl) ⟨Nat.le_trans (Nat.le_add_right _ _) hC.1, Nat.le_trans (Nat.le_add_right _ _) hC.2⟩ dX0_swap_76 (fun hk_11 => ?_)
          replace hw := hw.2
          refine c_castW X P hk_11 dX0_swap_79 ?_
          refine lv_astore (lv' := [(4, .ref (ad (wo (y1_1.toNatClampNeg)))), (0, .ref (ad 0)), (1, .int y1_1), (2, .int y2_1), (3, .int y3_1)]) hx hb dX0_swap_82 hl (by decide) rfl (fun ls hl => ?_)
          refine lv_aload_n hx hb dX0_swap_84 rfl (lv_at hl 1 rfl) ?_
          refine lv_aload hx hb dX0_swap_85 (lv_at hl 0 rfl) ?_
          refine cwc_runs X P hA hw ⟨Nat.le_of_ble_eq_true rfl, Nat.le_of_ble_eq_true rfl⟩ ⟨Nat.le_trans (Nat.le_add_right _ _) hC.1, Nat.le_trans (Nat.le_add_right _ _) hC.2⟩ hl.1 (Nat.le_of_ble_eq_true rfl) dX0_swap_87 (fun F_13 Ar_14 H locs hw P => ?_)
          refine lv_aload_n hx hb dX0_swap_90 rfl (lv_at hl 1 rfl) ?_
          refine lv_aload hx hb dX0_swap_91 (lv_at hl 0 rfl) ?_
          refine lv_iload_n hx hb dX0_swap_93 rfl (lv_at hl 3 rfl) ?_
          refine cwc_cost X P hA hw ⟨Nat.le_of_ble_eq_true rfl, Nat.le_of_ble_eq_true rfl⟩ ⟨Nat.le_trans (Nat.le_add_right _ _) hC.1, Nat.le_trans (Nat.le_add_right _ _) hC.2⟩ hl.1 (Nat.le_of_ble_eq_true rfl) dX0_swap_94 (fun r_15 F_16 Ar_17 H locs hw P => ?_)
          refine lv_istore (lv' := [(5, .int r_15), (4, .ref (ad (wo (y1_1.toNatClampNeg)))), (0, .ref (ad 0)), (1, .int y1_1), (2, .int y2_1), (3, .int y3_1)]) hx hb dX0_swap_97 hl (by decide) rfl (fun ls hl => ?_)
          refine lv_aload_n hx hb dX0_swap_99 rfl (lv_at hl 2 rfl) ?_
          refine lv_aload hx hb dX0_swap_100 (lv_at hl 1 rfl) ?_
          refine lv_iload_n hx hb dX0_swap_102 rfl (lv_at hl 5 rfl) ?_
          refine cwc_cost X P hA hw ⟨Nat.le_of_ble_eq_true rfl, Nat.le_of_ble_eq_true rfl⟩ ⟨Nat.le_trans (Nat.le_add_right _ _) hC.1, Nat.le_trans (Nat.le_add_right _ _) hC.2⟩ hl.1 (Nat.le_of_ble_eq_true rfl) dX0_swap_103 (fun r_18 F_19 Ar_20 H locs hw P => ?_)
          refine lv_istore (lv' := [(6, .int r_18), (5, .int r_15), (4, .ref (ad (wo (y1_1.toNatClampNeg)))), (0, .ref (ad 0)), (1, .int y1_1), (2, .int y2_1), (3, .int y3_1)]) hx hb dX0_swap_106 hl (by decide) rfl (fun ls hl => ?_)
          refine lv_aload_n hx hb dX0_swap_108 rfl (lv_at hl 3 rfl) ?_
          refine lv_aload hx hb dX0_swap_109 (lv_at hl 2 rfl) ?_
          refine c_trial X P hA hag hk_11 hw.1 ⟨Nat.le_of_ble_eq_true rfl, Nat.le_of_ble_eq_true rfl⟩ ⟨Nat.le_trans (show cells + 2 ≤ cells + 2 * 1 by omega) hC.1, Nat.le_trans (show slots + 19 ≤ slots + 19 * 1 by omega) hC.2⟩ hl.1 (Nat.le_of_ble_eq_true rfl) dX0_swap_111 (fun k_21 ad1 Kd_22 F_23 Ar_24 H locs ho hk_25 hag hway e0 P => ?_)
          replace hw := hw.2 k_21 Kd_22 F_23 Ar_24 ho
          replace hl := lv_sub hl [0, 1, 2, 3, 5, 6] rfl
          rw [← e0] at hl
          have hk_26 := (hway (y1_1.toNatClampNeg) hk_11).1
          rw [← (hway (y1_1.toNatClampNeg) hk_11).2] at hl
          have hC : cells + 2 + 2 * 0 ≤ 2 ∧ slots + 19 + 19 * 0 ≤ 19 := ⟨by have := hC.1; omega, by have := hC.2; omega⟩
          exact kwc_swap_J114 X hr hA hret _ _ _ _ _ _ hk_26 hk_25 hag hC P (lv_sub hl [3, 4, 5, 2, 1, 0] rfl) hw
        · replace hw := hw.2 c_10
          refine lv_bipush (v := (-7)) hx hb dX0_swap_68 (by decide) ?_
          refine W.widen (k := 2) (n := 19) (Nat.le_trans (Nat.le_add_right _ _) hC.1) (Nat.le_trans (Nat.le_add_right _ _) hC.2) ?_
          exact W.iret hx hb hr (fun t ht hW => hret _ _ _ _ _ _ _ t hw P hag ht) P.2.2.1.2.2 dX0_swap_70 hlk
      · replace hw := hw.2 c_9
        refine lv_bipush (v := (-5)) hx hb dX0_swap_60 (by decide) ?_
        refine W.widen (k := 2) (n := 19) (Nat.le_trans (Nat.le_add_right _ _) hC.1) (Nat.le_trans (Nat.le_add_right _ _) hC.2) ?_
        exact W.iret hx hb hr (fun t ht hW => hret _ _ _ _ _ _ _ t hw P hag ht) P.2.2.1.2.2 dX0_swap_62 hlk
def wc_swap (Kd : tK) (T : tT) (F : tF) (Ar : tA) (a1 : Int32) (a2 : Int32) (a3 : Int32) (Q : Int32 → tK → tF → tA → Prop) : Prop :=
  (wc_swap_J0 Kd T F Ar a1 a2 a3 Q)
set_option maxHeartbeats 4000000 in
theorem twc_swap (l : Launch) (D : va_G) (G ad : Nat → Nat) (Kd : tK) (U : tU) (T : tT) (zz : Int32) (F : tF) (Ar : tA) (a1 : Int32) (a2 : Int32) (a3 : Int32) (sz : Nat) (Q : Int32 → tK → tF → tA → Prop) (hw : wc_swap Kd T F Ar a1 a2 a3 Q) : Met l yX0_swap (ws_ yX0_swap cX0_swap 8 (some .int)) ({ frames := 203, cells := 2, slots := 19, locals := 4675 }) (va_Pc [.ref (ad 0), .int a1, .int a2, .int a3] (cPb D G ad Kd U T zz F Ar sz)) (va_Qi (fun r (u : tM) => Q r u.2.1 u.2.2.1 u.2.2.2) (cBM D G ad Kd U T zz sz) (cReg G ad Kd U zz sz)) 2 19 (cReg G ad Kd U zz sz) := by
  refine c_entry (by decide) (Nat.le_of_ble_eq_true rfl) ?_
  intro p e s m args below meth c ls X hr hsz P hl
  subst hsz
  have X : cCx p s m args meth c cX0_swap 8 RX0 D G := X
  have hl : lv_has ls 8 [(0, .ref (ad 0)), (1, .int a1), (2, .int a2), (3, .int a3)] := hl
  have hA : ∀ q, s.heap.size ≤ q → cReg G ad Kd U zz s.heap.size q := fun q h => Or.inr h
  have hag : cAg G U zz ad Kd ad Kd := ⟨fun k hk => ⟨rfl, hk⟩, fun _ => rfl⟩
  have hC : 0 + 2 * 1 ≤ 2 ∧ 0 + 19 * 1 ≤ 19 := ⟨Nat.le_of_ble_eq_true rfl, Nat.le_of_ble_eq_true rfl⟩
  have hret : ∀ (r : Int32) (ad1 : Nat → Nat) (Kd1 : tK) (F : tF) (Ar : tA) (H : Heap) (locs : List Loc) (t : State), Q r Kd1 F Ar → cP D (cReg G ad Kd U zz s.heap.size) G ad1 s.heap Kd1 U T zz F Ar H locs → cAg G U zz ad Kd ad1 Kd1 → t.heap = H → (va_Qi (fun r (u : tM) => Q r u.2.1 u.2.2.1 u.2.2.2) (cBM D G ad Kd U T zz s.heap.size) (cReg G ad Kd U zz s.heap.size)) args s (.returned (some (.int r))) t := fun r ad1 Kd1 F Ar H locs t hq P hag ht => ⟨⟨r, (ad1, Kd1, F, Ar), rfl, hq, by show gw_P _ _ _ _ t.heap; rw [ht]; exact P.1, P.2.1, P.2.2.2, fun k hk => (hag.1 k hk).1, hag.2⟩, P.2.2.1.F ht⟩
  exact kwc_swap_J0 X hr hA hret _ _ _ hag hC P (lv_sub hl [0, 1, 2, 3] rfl) hw
-- split
def wc_split_J115 (Kd : tK) (T : tT) (F : tF) (Ar : tA) (y2_22 : Int32) (y3_22 : Int32) (y4_22 : Int32) (y5_22 : Nat) (y6_22 : Int64) (y8_22 : Int32) (y9_22 : Int32) (y10_22 : Int32) (z0_22 : Int32) (z1_22 : Int32) (z2_22 : Nat) (Kh86_19 : tA → Int32 → Prop) (Q : Int64 → tK → tF → tA → Prop) : Prop :=
  vp_in z1_22 16 ∧ ∀ Ar_23 : tA, Ar_23 = aset Ar (wa z2_22) z1_22.toNatClampNeg (vp_nar .byte (z0_22.toInt8.toInt32)) → (Kh86_19 Ar_23 (y10_22 + 1))
set_option maxHeartbeats 4000000 in
theorem kwc_split_J115 {Q : Int64 → tK → tF → tA → Prop} {QC : Array Value → State → Outcome → State → Prop} {A : Nat → Prop} {ad0 : Nat → Nat} {Kd0 : tK} (X : cCx p s m args meth c cX0_split 12 RX0 D G) (hr : meth.sig.returnType = (some .long)) (hA : ∀ q, s.heap.size ≤ q → A q) (hret : ∀ (r : Int64) (ad : Nat → Nat) (Kd : tK) (F : tF) (Ar : tA) (H : Heap) (locs : List Loc) (t : State), Q r Kd F Ar → cP D A G ad s.heap Kd U T zz F Ar H locs → cAg G U zz ad0 Kd0 ad Kd → t.heap = H → QC args s (.returned (some (.long r))) t) {F : tF} {Ar : tA} (y2_22 : Int32) (y3_22 : Int32) (y4_22 : Int32) (y5_22 : Nat) (y6_22 : Int64) (y8_22 : Int32) (y9_22 : Int32) (y10_22 : Int32) (z0_22 : Int32) (z1_22 : Int32) (z2_22 : Nat) (Kh86_19 : tA → Int32 → Prop) (hky5_22 : Kd y5_22 ≠ none) (hkz2_22 : Kd z2_22 ≠ none) {cells slots : Nat} (hag : cAg G U zz ad0 Kd0 ad Kd) (hC : (cells + 2 * 0 ≤ 2 ∧ slots + 19 * 0 ≤ 19)) {H : Heap} {locs : List Loc} {ls : Array Slot} (P : cP D A G ad s.heap Kd U T zz F Ar H locs) (hl : lv_has ls 12 [(0, .ref (ad 0)), (2, .int y2_22), (3, .int y3_22), (4, .int y4_22), (5, .ref (ad (wo y5_22))), (6, .long y6_22), (8, .int y8_22), (9, .int y9_22), (10, .int y10_22)]) (hw : wc_split_J115 Kd T F Ar y2_22 y3_22 y4_22 y5_22 y6_22 y8_22 y9_22 y10_22 z0_22 z1_22 z2_22 Kh86_19 Q) (hKh86_19 : ∀ (Ar_ : tA) (w10_ : Int32) (H : Heap) (locs : List Loc) (ls : Array Slot), cP D A G ad s.heap Kd U T zz F Ar_ H locs → lv_has ls 12 [(0, .ref (ad 0)), (2, .int y2_22), (3, .int y3_22), (4, .int y4_22), (5, .ref (ad (wo y5_22))), (6, .long y6_22), (8, .int y8_22), (9, .int y9_22), (10, .int w10_)] → Kh86_19 Ar_ w10_ → W p l e ({ frames := 204, cells := 2, slots := 19, locals := 4699 }) s m args below meth c H locs cells slots (MQ below QC args s 2 19 A) (F0 m 86 ls [])) : W p l e ({ frames := 204, cells := 2, slots := 19, locals := 4699 }) s m args below meth c H locs cells slots (MQ below QC args s 2 19 A) (F0 m 115 ls [.int z0_22, .int z1_22, .ref (ad (wa z2_22))]) := by
  obtain ⟨hx, hb, hml, hown, hts, -, hlk, -⟩ := id X
  have S : CallFix p m c _ _ s args lw_all RX0 := ⟨hx, hb, hml, hown, hts⟩
  refine lv_i2b hx hb dX0_split_115 rfl ?_
  refine c_bast X P (c_warr P hkz2_22) hw.1 dX0_split_116 (fun Ar_23 H locs eAr_23 P _ => ?_)
  replace hw := hw.2
  replace hw := hw Ar_23 eAr_23
  refine lv_iinc (v := (y10_22 + 1)) (lv' := [(10, .int (y10_22 + 1)), (0, .ref (ad 0)), (2, .int y2_22), (3, .int y3_22), (4, .int y4_22), (5, .ref (ad (wo y5_22))), (6, .long y6_22), (8, .int y8_22), (9, .int y9_22)]) hx hb dX0_split_117 hl (k := 8) rfl rfl (by decide) rfl (fun ls hl => ?_)
  refine lv_goto (tgt := 86) hx hb dX0_split_120 (by decide) ?_
  exact hKh86_19 _ _ _ _ _ P (lv_sub hl [1, 2, 3, 4, 5, 6, 7, 8, 0] rfl) hw
def wc_split_L86 (Kd : tK) (T : tT) (F : tF) (y2_19 : Int32) (y3_19 : Int32) (y4_19 : Int32) (y5_19 : Nat) (y6_19 : Int64) (y8_19 : Int32) (y9_19 : Int32) (Kx123_19 : tA → Prop) (Q : Int64 → tK → tF → tA → Prop) : Nat → tA → Int32 → Prop
  | 0, _, _ => False
  | f86 + 1, Ar, y10_19 =>
    (((F (wa y5_19)) ≤ y10_19 → (Kx123_19 Ar)) ∧ (¬ (F (wa y5_19)) ≤ y10_19 → ((y9_19 ≤ y10_19 → (wc_split_J115 Kd T F Ar y2_19 y3_19 y4_19 y5_19 y6_19 y8_19 y9_19 y10_19 y3_19 y10_19 y5_19 (wc_split_L86 Kd T F y2_19 y3_19 y4_19 y5_19 y6_19 y8_19 y9_19 Kx123_19 Q f86) Q)) ∧ (¬ y9_19 ≤ y10_19 → (wc_split_J115 Kd T F Ar y2_19 y3_19 y4_19 y5_19 y6_19 y8_19 y9_19 y10_19 y2_19 y10_19 y5_19 (wc_split_L86 Kd T F y2_19 y3_19 y4_19 y5_19 y6_19 y8_19 y9_19 Kx123_19 Q f86) Q)))))
set_option maxHeartbeats 4000000 in
theorem kwc_split_L86 (T : tT) {Q : Int64 → tK → tF → tA → Prop} {QC : Array Value → State → Outcome → State → Prop} {A : Nat → Prop} {ad0 : Nat → Nat} {Kd0 : tK} (X : cCx p s m args meth c cX0_split 12 RX0 D G) (hr : meth.sig.returnType = (some .long)) (hA : ∀ q, s.heap.size ≤ q → A q) (hret : ∀ (r : Int64) (ad : Nat → Nat) (Kd : tK) (F : tF) (Ar : tA) (H : Heap) (locs : List Loc) (t : State), Q r Kd F Ar → cP D A G ad s.heap Kd U T zz F Ar H locs → cAg G U zz ad0 Kd0 ad Kd → t.heap = H → QC args s (.returned (some (.long r))) t) (Kd : tK) (F : tF) (y2_19 : Int32) (y3_19 : Int32) (y4_19 : Int32) (y5_19 : Nat) (y6_19 : Int64) (y8_19 : Int32) (y9_19 : Int32) (Kx123_19 : tA → Prop) {cells slots : Nat} (hag : cAg G U zz ad0 Kd0 ad Kd) (hC : (cells + 2 * 0 ≤ 2 ∧ slots + 19 * 0 ≤ 19)) (hky5_19 : Kd y5_19 ≠ none) (hKx123_19 : ∀ (Ar_ : tA) (H : Heap) (locs : List Loc) (ls : Array Slot), cP D A G ad s.heap Kd U T zz F Ar_ H locs → lv_has ls 12 [(0, .ref (ad 0)), (2, .int y2_19), (3, .int y3_19), (4, .int y4_19), (5, .ref (ad (wo y5_19))), (6, .long y6_19), (8, .int y8_19), (9, .int y9_19)] → Kx123_19 Ar_ → W p l e ({ frames := 204, cells := 2, slots := 19, locals := 4699 }) s m args below meth c H locs cells slots (MQ below QC args s 2 19 A) (F0 m 123 ls [])) : ∀ (n : Nat) (Ar : tA) (y10_19 : Int32) (H : Heap) (locs : List Loc) (ls : Array Slot), cP D A G ad s.heap Kd U T zz F Ar H locs → lv_has ls 12 [(0, .ref (ad 0)), (2, .int y2_19), (3, .int y3_19), (4, .int y4_19), (5, .ref (ad (wo y5_19))), (6, .long y6_19), (8, .int y8_19), (9, .int y9_19), (10, .int y10_19)] → wc_split_L86 Kd T F y2_19 y3_19 y4_19 y5_19 y6_19 y8_19 y9_19 Kx123_19 Q n Ar y10_19 → W p l e ({ frames := 204, cells := 2, slots := 19, locals := 4699 }) s m args below meth c H locs cells slots (MQ below QC args s 2 19 A) (F0 m 86 ls []) := by
  obtain ⟨hx, hb, hml, hown, hts, -, hlk, -⟩ := id X
  have S : CallFix p m c _ _ s args lw_all RX0 := ⟨hx, hb, hml, hown, hts⟩
  intro n
  induction n with
  | zero =>
    intro Ar y10_19 H locs ls P hl hw
    exact hw.elim
  | succ n ih =>
    intro Ar y10_19 H locs ls P hl hw
    have hKh86_19 := ih
    refine lv_iload hx hb dX0_split_86 (lv_at hl 8 rfl) ?_
    refine lv_aload hx hb dX0_split_88 (lv_at hl 4 rfl) ?_
    refine c_wg_carts X P hky5_19 dX0_split_90 ?_
    refine lv_icmp_ge (tgt := 123) hx hb dX0_split_93 (by decide) (fun c_20 => ?_) (fun c_20 => ?_)
    · replace hw := hw.1 c_20
      exact hKx123_19 _ _ _ _ P (lv_sub hl [0, 1, 2, 3, 4, 5, 6, 7] rfl) hw
    · replace hw := hw.2 c_20
      refine lv_aload hx hb dX0_split_96 (lv_at hl 4 rfl) ?_
      refine c_wg_choice X P hky5_19 dX0_split_98 ?_
      refine lv_iload hx hb dX0_split_101 (lv_at hl 8 rfl) ?_
      refine lv_iload hx hb dX0_split_103 (lv_at hl 8 rfl) ?_
      refine lv_iload hx hb dX0_split_105 (lv_at hl 7 rfl) ?_
      refine lv_icmp_ge (tgt := 114) hx hb dX0_split_107 (by decide) (fun c_21 => ?_) (fun c_21 => ?_)
      · replace hw := hw.1 c_21
        refine lv_iload_n hx hb dX0_split_114 rfl (lv_at hl 2 rfl) ?_
        exact kwc_split_J115 X hr hA hret _ _ _ _ _ _ _ _ _ _ _ _ hky5_19 hky5_19 hag hC P (lv_sub hl [0, 1, 2, 3, 4, 5, 6, 7, 8] rfl) hw hKh86_19
      · replace hw := hw.2 c_21
        refine lv_iload_n hx hb dX0_split_110 rfl (lv_at hl 1 rfl) ?_
        refine lv_goto (tgt := 115) hx hb dX0_split_111 (by decide) ?_
        exact kwc_split_J115 X hr hA hret _ _ _ _ _ _ _ _ _ _ _ _ hky5_19 hky5_19 hag hC P (lv_sub hl [0, 1, 2, 3, 4, 5, 6, 7, 8] rfl) hw hKh86_19
def wc_split_J162 (Kd : tK) (T : tT) (F : tF) (Ar : tA) (y2_33 : Int32) (y3_33 : Int32) (y4_33 : Int32) (y5_33 : Nat) (y6_33 : Int64) (y8_33 : Int32) (y9_33 : Int32) (Kh73_17 : tF → tA → Int64 → Int32 → Int32 → Prop) (Q : Int64 → tK → tF → tA → Prop) : Prop :=
  (Kh73_17 F Ar y6_33 y8_33 (y9_33 + 1))
set_option maxHeartbeats 4000000 in
theorem kwc_split_J162 {Q : Int64 → tK → tF → tA → Prop} {QC : Array Value → State → Outcome → State → Prop} {A : Nat → Prop} {ad0 : Nat → Nat} {Kd0 : tK} (X : cCx p s m args meth c cX0_split 12 RX0 D G) (hr : meth.sig.returnType = (some .long)) (hA : ∀ q, s.heap.size ≤ q → A q) (hret : ∀ (r : Int64) (ad : Nat → Nat) (Kd : tK) (F : tF) (Ar : tA) (H : Heap) (locs : List Loc) (t : State), Q r Kd F Ar → cP D A G ad s.heap Kd U T zz F Ar H locs → cAg G U zz ad0 Kd0 ad Kd → t.heap = H → QC args s (.returned (some (.long r))) t) {F : tF} {Ar : tA} (y2_33 : Int32) (y3_33 : Int32) (y4_33 : Int32) (y5_33 : Nat) (y6_33 : Int64) (y8_33 : Int32) (y9_33 : Int32) (Kh73_17 : tF → tA → Int64 → Int32 → Int32 → Prop) (hky5_33 : Kd y5_33 ≠ none) {cells slots : Nat} (hag : cAg G U zz ad0 Kd0 ad Kd) (hC : (cells + 2 * 0 ≤ 2 ∧ slots + 19 * 0 ≤ 19)) {H : Heap} {locs : List Loc} {ls : Array Slot} (P : cP D A G ad s.heap Kd U T zz F Ar H locs) (hl : lv_has ls 12 [(0, .ref (ad 0)), (2, .int y2_33), (3, .int y3_33), (4, .int y4_33), (5, .ref (ad (wo y5_33))), (6, .long y6_33), (8, .int y8_33), (9, .int y9_33)]) (hw : wc_split_J162 Kd T F Ar y2_33 y3_33 y4_33 y5_33 y6_33 y8_33 y9_33 Kh73_17 Q) (hKh73_17 : ∀ (F_ : tF) (Ar_ : tA) (w6_ : Int64) (w8_ : Int32) (w9_ : Int32) (H : Heap) (locs : List Loc) (ls : Array Slot), cP D A G ad s.heap Kd U T zz F_ Ar_ H locs → lv_has ls 12 [(0, .ref (ad 0)), (2, .int y2_33), (3, .int y3_33), (4, .int y4_33), (5, .ref (ad (wo y5_33))), (6, .long w6_), (8, .int w8_), (9, .int w9_)] → Kh73_17 F_ Ar_ w6_ w8_ w9_ → W p l e ({ frames := 204, cells := 2, slots := 19, locals := 4699 }) s m args below meth c H locs cells slots (MQ below QC args s 2 19 A) (F0 m 73 ls [])) : W p l e ({ frames := 204, cells := 2, slots := 19, locals := 4699 }) s m args below meth c H locs cells slots (MQ below QC args s 2 19 A) (F0 m 162 ls []) := by
  obtain ⟨hx, hb, hml, hown, hts, -, hlk, -⟩ := id X
  have S : CallFix p m c _ _ s args lw_all RX0 := ⟨hx, hb, hml, hown, hts⟩
  refine lv_iinc (v := (y9_33 + 1)) (lv' := [(9, .int (y9_33 + 1)), (0, .ref (ad 0)), (2, .int y2_33), (3, .int y3_33), (4, .int y4_33), (5, .ref (ad (wo y5_33))), (6, .long y6_33), (8, .int y8_33)]) hx hb dX0_split_162 hl (k := 7) rfl rfl (by decide) rfl (fun ls hl => ?_)
  refine lv_goto (tgt := 73) hx hb dX0_split_165 (by decide) ?_
  exact hKh73_17 _ _ _ _ _ _ _ _ P (lv_sub hl [1, 2, 3, 4, 5, 6, 7, 0] rfl) hw
def wc_split_J154 (Kd : tK) (T : tT) (F : tF) (Ar : tA) (y2_32 : Int32) (y3_32 : Int32) (y4_32 : Int32) (y5_32 : Nat) (y9_32 : Int32) (y10_32 : Int64) (Kh73_17 : tF → tA → Int64 → Int32 → Int32 → Prop) (Q : Int64 → tK → tF → tA → Prop) : Prop :=
  (wc_split_J162 Kd T F Ar y2_32 y3_32 y4_32 y5_32 y10_32 y9_32 y9_32 Kh73_17 Q)
set_option maxHeartbeats 4000000 in
theorem kwc_split_J154 {Q : Int64 → tK → tF → tA → Prop} {QC : Array Value → State → Outcome → State → Prop} {A : Nat → Prop} {ad0 : Nat → Nat} {Kd0 : tK} (X : cCx p s m args meth c cX0_split 12 RX0 D G) (hr : meth.sig.returnType = (some .long)) (hA : ∀ q, s.heap.size ≤ q → A q) (hret : ∀ (r : Int64) (ad : Nat → Nat) (Kd : tK) (F : tF) (Ar : tA) (H : Heap) (locs : List Loc) (t : State), Q r Kd F Ar → cP D A G ad s.heap Kd U T zz F Ar H locs → cAg G U zz ad0 Kd0 ad Kd → t.heap = H → QC args s (.returned (some (.long r))) t) {F : tF} {Ar : tA} (y2_32 : Int32) (y3_32 : Int32) (y4_32 : Int32) (y5_32 : Nat) (y9_32 : Int32) (y10_32 : Int64) (Kh73_17 : tF → tA → Int64 → Int32 → Int32 → Prop) (hky5_32 : Kd y5_32 ≠ none) {cells slots : Nat} (hag : cAg G U zz ad0 Kd0 ad Kd) (hC : (cells + 2 * 0 ≤ 2 ∧ slots + 19 * 0 ≤ 19)) {H : Heap} {locs : List Loc} {ls : Array Slot} (P : cP D A G ad s.heap Kd U T zz F Ar H locs) (hl : lv_has ls 12 [(0, .ref (ad 0)), (2, .int y2_32), (3, .int y3_32), (4, .int y4_32), (5, .ref (ad (wo y5_32))), (9, .int y9_32), (10, .long y10_32)]) (hw : wc_split_J154 Kd T F Ar y2_32 y3_32 y4_32 y5_32 y9_32 y10_32 Kh73_17 Q) (hKh73_17 : ∀ (F_ : tF) (Ar_ : tA) (w6_ : Int64) (w8_ : Int32) (w9_ : Int32) (H : Heap) (locs : List Loc) (ls : Array Slot), cP D A G ad s.heap Kd U T zz F_ Ar_ H locs → lv_has ls 12 [(0, .ref (ad 0)), (2, .int y2_32), (3, .int y3_32), (4, .int y4_32), (5, .ref (ad (wo y5_32))), (6, .long w6_), (8, .int w8_), (9, .int w9_)] → Kh73_17 F_ Ar_ w6_ w8_ w9_ → W p l e ({ frames := 204, cells := 2, slots := 19, locals := 4699 }) s m args below meth c H locs cells slots (MQ below QC args s 2 19 A) (F0 m 73 ls [])) : W p l e ({ frames := 204, cells := 2, slots := 19, locals := 4699 }) s m args below meth c H locs cells slots (MQ below QC args s 2 19 A) (F0 m 154 ls []) := by
  obtain ⟨hx, hb, hml, hown, hts, -, hlk, -⟩ := id X
  have S : CallFix p m c _ _ s args lw_all RX0 := ⟨hx, hb, hml, hown, hts⟩
  refine lv_iload hx hb dX0_split_154 (lv_at hl 5 rfl) ?_
  refine lv_istore (lv' := [(8, .int y9_32), (0, .ref (ad 0)), (2, .int y2_32), (3, .int y3_32), (4, .int y4_32), (5, .ref (ad (wo y5_32))), (9, .int y9_32), (10, .long y10_32)]) hx hb dX0_split_156 hl (by decide) rfl (fun ls hl => ?_)
  refine lv_lload hx hb dX0_split_158 (lv_at hl 7 rfl) ?_
  refine lv_lstore (lv' := [(6, .long y10_32), (8, .int y9_32), (0, .ref (ad 0)), (2, .int y2_32), (3, .int y3_32), (4, .int y4_32), (5, .ref (ad (wo y5_32))), (9, .int y9_32), (10, .long y10_32)]) hx hb dX0_split_160 hl (by decide) rfl (fun ls hl => ?_)
  exact kwc_split_J162 X hr hA hret _ _ _ _ _ _ _ _ hky5_32 hag hC P (lv_sub hl [2, 3, 4, 5, 6, 0, 1, 7] rfl) hw hKh73_17
def wc_split_L73 (Kd : tK) (T : tT) (y2_17 : Int32) (y3_17 : Int32) (y4_17 : Int32) (y5_17 : Nat) (Kx168_17 : tF → tA → Int64 → Int32 → Prop) (Q : Int64 → tK → tF → tA → Prop) : Nat → tF → tA → Int64 → Int32 → Int32 → Prop
  | 0, _, _, _, _, _ => False
  | f73 + 1, F, Ar, y6_17, y8_17, y9_17 =>
    (((F (wa y5_17)) < y9_17 → (Kx168_17 F Ar y6_17 y8_17)) ∧ (¬ (F (wa y5_17)) < y9_17 → (∃ n86, wc_split_L86 Kd T F y2_17 y3_17 y4_17 y5_17 y6_17 y8_17 y9_17 (fun (Ar_24 : tA) => wc_runs Kd T F Ar_24 y5_17 (fun F_26 Ar_27 => wc_whole Kd T F_26 Ar_27 y5_17 (fun r_28 F_29 Ar_30 => ((y8_17 = (-1) → (wc_split_J154 Kd T F_29 Ar_30 y2_17 y3_17 y4_17 y5_17 y9_17 r_28 (wc_split_L73 Kd T y2_17 y3_17 y4_17 y5_17 Kx168_17 Q f73) Q)) ∧ (¬ y8_17 = (-1) → ((r_28 < y6_17 → (wc_split_J154 Kd T F_29 Ar_30 y2_17 y3_17 y4_17 y5_17 y9_17 r_28 (wc_split_L73 Kd T y2_17 y3_17 y4_17 y5_17 Kx168_17 Q f73) Q)) ∧ (¬ r_28 < y6_17 → (wc_split_J162 Kd T F_29 Ar_30 y2_17 y3_17 y4_17 y5_17 y6_17 y8_17 y9_17 (wc_split_L73 Kd T y2_17 y3_17 y4_17 y5_17 Kx168_17 Q f73) Q)))))))) Q n86 Ar 0)))
set_option maxHeartbeats 4000000 in
theorem kwc_split_L73 (T : tT) {Q : Int64 → tK → tF → tA → Prop} {QC : Array Value → State → Outcome → State → Prop} {A : Nat → Prop} {ad0 : Nat → Nat} {Kd0 : tK} (X : cCx p s m args meth c cX0_split 12 RX0 D G) (hr : meth.sig.returnType = (some .long)) (hA : ∀ q, s.heap.size ≤ q → A q) (hret : ∀ (r : Int64) (ad : Nat → Nat) (Kd : tK) (F : tF) (Ar : tA) (H : Heap) (locs : List Loc) (t : State), Q r Kd F Ar → cP D A G ad s.heap Kd U T zz F Ar H locs → cAg G U zz ad0 Kd0 ad Kd → t.heap = H → QC args s (.returned (some (.long r))) t) (Kd : tK) (y2_17 : Int32) (y3_17 : Int32) (y4_17 : Int32) (y5_17 : Nat) (Kx168_17 : tF → tA → Int64 → Int32 → Prop) {cells slots : Nat} (hag : cAg G U zz ad0 Kd0 ad Kd) (hC : (cells + 2 * 0 ≤ 2 ∧ slots + 19 * 0 ≤ 19)) (hky5_17 : Kd y5_17 ≠ none) (hKx168_17 : ∀ (F_ : tF) (Ar_ : tA) (w6_ : Int64) (w8_ : Int32) (H : Heap) (locs : List Loc) (ls : Array Slot), cP D A G ad s.heap Kd U T zz F_ Ar_ H locs → lv_has ls 12 [(0, .ref (ad 0)), (4, .int y4_17), (6, .long w6_), (8, .int w8_)] → Kx168_17 F_ Ar_ w6_ w8_ → W p l e ({ frames := 204, cells := 2, slots := 19, locals := 4699 }) s m args below meth c H locs cells slots (MQ below QC args s 2 19 A) (F0 m 168 ls [])) : ∀ (n : Nat) (F : tF) (Ar : tA) (y6_17 : Int64) (y8_17 : Int32) (y9_17 : Int32) (H : Heap) (locs : List Loc) (ls : Array Slot), cP D A G ad s.heap Kd U T zz F Ar H locs → lv_has ls 12 [(0, .ref (ad 0)), (2, .int y2_17), (3, .int y3_17), (4, .int y4_17), (5, .ref (ad (wo y5_17))), (6, .long y6_17), (8, .int y8_17), (9, .int y9_17)] → wc_split_L73 Kd T y2_17 y3_17 y4_17 y5_17 Kx168_17 Q n F Ar y6_17 y8_17 y9_17 → W p l e ({ frames := 204, cells := 2, slots := 19, locals := 4699 }) s m args below meth c H locs cells slots (MQ below QC args s 2 19 A) (F0 m 73 ls []) := by
  obtain ⟨hx, hb, hml, hown, hts, -, hlk, -⟩ := id X
  have S : CallFix p m c _ _ s args lw_all RX0 := ⟨hx, hb, hml, hown, hts⟩
  intro n
  induction n with
  | zero =>
    intro F Ar y6_17 y8_17 y9_17 H locs ls P hl hw
    exact hw.elim
  | succ n ih =>
    intro F Ar y6_17 y8_17 y9_17 H locs ls P hl hw
    have hKh73_17 := ih
    refine lv_iload hx hb dX0_split_73 (lv_at hl 7 rfl) ?_
    refine lv_aload hx hb dX0_split_75 (lv_at hl 4 rfl) ?_
    refine c_wg_carts X P hky5_17 dX0_split_77 ?_
    refine lv_icmp_gt (tgt := 168) hx hb dX0_split_80 (by decide) (fun c_18 => ?_) (fun c_18 => ?_)
    · replace hw := hw.1 c_18
      exact hKx168_17 _ _ _ _ _ _ _ P (lv_sub hl [0, 3, 5, 6] rfl) hw
    · replace hw := hw.2 c_18
      refine lv_iconst (v := 0) hx hb dX0_split_83 (by decide) ?_
      refine lv_istore (lv' := [(10, .int 0), (0, .ref (ad 0)), (2, .int y2_17), (3, .int y3_17), (4, .int y4_17), (5, .ref (ad (wo y5_17))), (6, .long y6_17), (8, .int y8_17), (9, .int y9_17)]) hx hb dX0_split_84 hl (by decide) rfl (fun ls hl => ?_)
      obtain ⟨n_35, hw⟩ := hw
      refine kwc_split_L86 _ X hr hA hret _ _ _ _ _ _ _ _ _ _ hag hC  hky5_17 ?_ n_35 _ _ _ _ _ P (lv_sub hl [1, 2, 3, 4, 5, 6, 7, 8, 0] rfl) hw
      · intro Ar_24 H locs ls P hl hw
        refine lv_aload_n hx hb dX0_split_123 rfl (lv_at hl 0 rfl) ?_
        refine lv_aload hx hb dX0_split_124 (lv_at hl 4 rfl) ?_
        refine cwc_runs X P hA hw ⟨Nat.le_of_ble_eq_true rfl, Nat.le_of_ble_eq_true rfl⟩ ⟨Nat.le_trans (Nat.le_add_right _ _) hC.1, Nat.le_trans (Nat.le_add_right _ _) hC.2⟩ hl.1 (Nat.le_of_ble_eq_true rfl) dX0_split_126 (fun F_26 Ar_27 H locs hw P => ?_)
        refine lv_aload_n hx hb dX0_split_129 rfl (lv_at hl 0 rfl) ?_
        refine lv_aload hx hb dX0_split_130 (lv_at hl 4 rfl) ?_
        refine cwc_whole X P hA hw ⟨Nat.le_of_ble_eq_true rfl, Nat.le_of_ble_eq_true rfl⟩ ⟨Nat.le_trans (Nat.le_add_right _ _) hC.1, Nat.le_trans (Nat.le_add_right _ _) hC.2⟩ hl.1 (Nat.le_of_ble_eq_true rfl) dX0_split_132 (fun r_28 F_29 Ar_30 H locs hw P => ?_)
        refine lv_lstore (lv' := [(10, .long r_28), (0, .ref (ad 0)), (2, .int y2_17), (3, .int y3_17), (4, .int y4_17), (5, .ref (ad (wo y5_17))), (6, .long y6_17), (8, .int y8_17), (9, .int y9_17)]) hx hb dX0_split_135 hl (by decide) rfl (fun ls hl => ?_)
        refine lv_iload hx hb dX0_split_137 (lv_at hl 7 rfl) ?_
        refine lv_iconst (v := (-1)) hx hb dX0_split_139 (by decide) ?_
        refine lv_icmp_eq (tgt := 154) hx hb dX0_split_140 (by decide) (fun c_31 => ?_) (fun c_31 => ?_)
        · replace hw := hw.1 c_31
          exact kwc_split_J154 X hr hA hret _ _ _ _ _ _ _ hky5_17 hag hC P (lv_sub hl [1, 2, 3, 4, 5, 8, 0] rfl) hw hKh73_17
        · replace hw := hw.2 c_31
          refine lv_lload hx hb dX0_split_143 (lv_at hl 0 rfl) ?_
          refine lv_lload hx hb dX0_split_145 (lv_at hl 6 rfl) ?_
          refine lc_lt (tgt := 154) hx hb dX0_split_147 dX0_split_148 (by decide) (fun c_34 => ?_) (fun c_34 => ?_)
          · replace hw := hw.1 c_34
            exact kwc_split_J154 X hr hA hret _ _ _ _ _ _ _ hky5_17 hag hC P (lv_sub hl [1, 2, 3, 4, 5, 8, 0] rfl) hw hKh73_17
          · replace hw := hw.2 c_34
            refine lv_goto (tgt := 162) hx hb dX0_split_151 (by decide) ?_
            exact kwc_split_J162 X hr hA hret _ _ _ _ _ _ _ _ hky5_17 hag hC P (lv_sub hl [1, 2, 3, 4, 5, 6, 7, 8] rfl) hw hKh73_17
def wc_split_J62 (Kd : tK) (T : tT) (F : tF) (Ar : tA) (y2_16 : Int32) (y3_16 : Int32) (y4_16 : Int32) (z0_16 : Nat) (Q : Int64 → tK → tF → tA → Prop) : Prop :=
  (∃ n73, wc_split_L73 Kd T y2_16 y3_16 y4_16 z0_16 (fun (F_36 : tF) (Ar_37 : tA) (x6_38 : Int64) (x8_39 : Int32) => ((¬ y4_16 = 0 → Q x6_38 Kd F_36 Ar_37) ∧ (y4_16 = 0 → Q (x8_39.toInt64) Kd F_36 Ar_37))) Q n73 F Ar 0 (-1) 0)
set_option maxHeartbeats 4000000 in
theorem kwc_split_J62 {Q : Int64 → tK → tF → tA → Prop} {QC : Array Value → State → Outcome → State → Prop} {A : Nat → Prop} {ad0 : Nat → Nat} {Kd0 : tK} (X : cCx p s m args meth c cX0_split 12 RX0 D G) (hr : meth.sig.returnType = (some .long)) (hA : ∀ q, s.heap.size ≤ q → A q) (hret : ∀ (r : Int64) (ad : Nat → Nat) (Kd : tK) (F : tF) (Ar : tA) (H : Heap) (locs : List Loc) (t : State), Q r Kd F Ar → cP D A G ad s.heap Kd U T zz F Ar H locs → cAg G U zz ad0 Kd0 ad Kd → t.heap = H → QC args s (.returned (some (.long r))) t) {F : tF} {Ar : tA} (y2_16 : Int32) (y3_16 : Int32) (y4_16 : Int32) (z0_16 : Nat) (hkz0_16 : Kd z0_16 ≠ none) {cells slots : Nat} (hag : cAg G U zz ad0 Kd0 ad Kd) (hC : (cells + 2 * 0 ≤ 2 ∧ slots + 19 * 0 ≤ 19)) {H : Heap} {locs : List Loc} {ls : Array Slot} (P : cP D A G ad s.heap Kd U T zz F Ar H locs) (hl : lv_has ls 12 [(0, .ref (ad 0)), (2, .int y2_16), (3, .int y3_16), (4, .int y4_16)]) (hw : wc_split_J62 Kd T F Ar y2_16 y3_16 y4_16 z0_16 Q) : W p l e ({ frames := 204, cells := 2, slots := 19, locals := 4699 }) s m args below meth c H locs cells slots (MQ below QC args s 2 19 A) (F0 m 62 ls [.ref (ad (wo z0_16))]) := by
  obtain ⟨hx, hb, hml, hown, hts, -, hlk, -⟩ := id X
  have S : CallFix p m c _ _ s args lw_all RX0 := ⟨hx, hb, hml, hown, hts⟩
  refine lv_astore (lv' := [(5, .ref (ad (wo z0_16))), (0, .ref (ad 0)), (2, .int y2_16), (3, .int y3_16), (4, .int y4_16)]) hx hb dX0_split_62 hl (by decide) rfl (fun ls hl => ?_)
  refine lv_lconst (v := 0) hx hb dX0_split_64 (by decide) ?_
  refine lv_lstore (lv' := [(6, .long 0), (5, .ref (ad (wo z0_16))), (0, .ref (ad 0)), (2, .int y2_16), (3, .int y3_16), (4, .int y4_16)]) hx hb dX0_split_65 hl (by decide) rfl (fun ls hl => ?_)
  refine lv_iconst (v := (-1)) hx hb dX0_split_67 (by decide) ?_
  refine lv_istore (lv' := [(8, .int (-1)), (6, .long 0), (5, .ref (ad (wo z0_16))), (0, .ref (ad 0)), (2, .int y2_16), (3, .int y3_16), (4, .int y4_16)]) hx hb dX0_split_68 hl (by decide) rfl (fun ls hl => ?_)
  refine lv_iconst (v := 0) hx hb dX0_split_70 (by decide) ?_
  refine lv_istore (lv' := [(9, .int 0), (8, .int (-1)), (6, .long 0), (5, .ref (ad (wo z0_16))), (0, .ref (ad 0)), (2, .int y2_16), (3, .int y3_16), (4, .int y4_16)]) hx hb dX0_split_71 hl (by decide) rfl (fun ls hl => ?_)
  obtain ⟨n_41, hw⟩ := hw
  refine kwc_split_L73 _ X hr hA hret _ _ _ _ _ _ hag hC  hkz0_16 ?_ n_41 _ _ _ _ _ _ _ _ P (lv_sub hl [4, 5, 6, 7, 3, 2, 1, 0] rfl) hw
  · intro F_36 Ar_37 x6_38 x8_39 H locs ls P hl hw
    refine lv_iload hx hb dX0_split_168 (lv_at hl 1 rfl) ?_
    refine lv_if_ne (tgt := 179) hx hb dX0_split_170 (by decide) (fun c_40 => ?_) (fun c_40 => ?_)
    · replace hw := hw.1 c_40
      refine lv_lload hx hb dX0_split_179 (lv_at hl 2 rfl) ?_
      refine W.widen (k := 2) (n := 19) (Nat.le_trans (Nat.le_add_right _ _) hC.1) (Nat.le_trans (Nat.le_add_right _ _) hC.2) ?_
      exact W.lret hx hb hr (fun t ht hW => hret _ _ _ _ _ _ _ t hw P hag ht) P.2.2.1.2.2 dX0_split_181 hlk
    · replace hw := hw.2 c_40
      refine lv_iload hx hb dX0_split_173 (lv_at hl 3 rfl) ?_
      refine lv_i2l hx hb dX0_split_175 rfl ?_
      refine lv_goto (tgt := 181) hx hb dX0_split_176 (by decide) ?_
      refine W.widen (k := 2) (n := 19) (Nat.le_trans (Nat.le_add_right _ _) hC.1) (Nat.le_trans (Nat.le_add_right _ _) hC.2) ?_
      exact W.lret hx hb hr (fun t ht hW => hret _ _ _ _ _ _ _ t hw P hag ht) P.2.2.1.2.2 dX0_split_181 hlk
def wc_split_J0 (Kd : tK) (T : tT) (F : tF) (Ar : tA) (y1_1 : Int32) (y2_1 : Int32) (y3_1 : Int32) (y4_1 : Int32) (Q : Int64 → tK → tF → tA → Prop) : Prop :=
  wc_isWay Kd T F Ar y1_1 (fun r_2 => ((r_2 = 0 → Q (-4611686018427387904) Kd F Ar) ∧ (¬ r_2 = 0 → wc_in (y2_1.toInt64) 0 48 (fun r_4 => ((r_4 = 0 → Q (-4611686018427387904) Kd F Ar) ∧ (¬ r_4 = 0 → wc_in (y3_1.toInt64) 0 48 (fun r_6 => ((r_6 = 0 → Q (-4611686018427387904) Kd F Ar) ∧ (¬ r_6 = 0 → wc_in (y4_1.toInt64) 0 1 (fun r_8 => ((¬ r_8 = 0 → (¬ y1_1 < 0 ∧ y1_1 < F 32) ∧ trOK Kd Ar (y1_1.toNatClampNeg) ∧ ∀ (k_11 : Nat) (Kd_12 : tK) (F_13 : tF) (Ar_14 : tA), trOut Kd F Ar (y1_1.toNatClampNeg) k_11 Kd_12 F_13 Ar_14 → (wc_split_J62 Kd_12 T F_13 Ar_14 y2_1 y3_1 y4_1 (8 + k_11) Q)) ∧ (r_8 = 0 → Q (-4611686018427387904) Kd F Ar))))))))))))
set_option maxHeartbeats 4000000 in
theorem kwc_split_J0 {Q : Int64 → tK → tF → tA → Prop} {QC : Array Value → State → Outcome → State → Prop} {A : Nat → Prop} {ad0 : Nat → Nat} {Kd0 : tK} (X : cCx p s m args meth c cX0_split 12 RX0 D G) (hr : meth.sig.returnType = (some .long)) (hA : ∀ q, s.heap.size ≤ q → A q) (hret : ∀ (r : Int64) (ad : Nat → Nat) (Kd : tK) (F : tF) (Ar : tA) (H : Heap) (locs : List Loc) (t : State), Q r Kd F Ar → cP D A G ad s.heap Kd U T zz F Ar H locs → cAg G U zz ad0 Kd0 ad Kd → t.heap = H → QC args s (.returned (some (.long r))) t) {F : tF} {Ar : tA} (y1_1 : Int32) (y2_1 : Int32) (y3_1 : Int32) (y4_1 : Int32) {cells slots : Nat} (hag : cAg G U zz ad0 Kd0 ad Kd) (hC : (cells + 2 * 1 ≤ 2 ∧ slots + 19 * 1 ≤ 19)) {H : Heap} {locs : List Loc} {ls : Array Slot} (P : cP D A G ad s.heap Kd U T zz F Ar H locs) (hl : lv_has ls 12 [(0, .ref (ad 0)), (1, .int y1_1), (2, .int y2_1), (3, .int y3_1), (4, .int y4_1)]) (hw : wc_split_J0 Kd T F Ar y1_1 y2_1 y3_1 y4_1 Q) : W p l e ({ frames := 204, cells := 2, slots := 19, locals := 4699 }) s m args below meth c H locs cells slots (MQ below QC args s 2 19 A) (F0 m 0 ls []) := by
  obtain ⟨hx, hb, hml, hown, hts, -, hlk, -⟩ := id X
  have S : CallFix p m c _ _ s args lw_all RX0 := ⟨hx, hb, hml, hown, hts⟩
  refine lv_aload_n hx hb dX0_split_0 rfl (lv_at hl 0 rfl) ?_
  refine lv_iload_n hx hb dX0_split_1 rfl (lv_at hl 1 rfl) ?_
  refine cwc_isWay X P hA hw ⟨Nat.le_of_ble_eq_true rfl, Nat.le_of_ble_eq_true rfl⟩ ⟨Nat.le_trans (Nat.le_add_right _ _) hC.1, Nat.le_trans (Nat.le_add_right _ _) hC.2⟩ hl.1 (Nat.le_of_ble_eq_true rfl) dX0_split_2 (fun r_2 hw => ?_)
  refine lv_if_eq (tgt := 43) hx hb dX0_split_5 (by decide) (fun c_3 => ?_) (fun c_3 => ?_)
  · replace hw := hw.1 c_3
    refine lv_ldc2 (v := (-4611686018427387904)) hx hb hown (hts _ q1099) dX0_split_43 ?_
    refine W.widen (k := 2) (n := 19) (Nat.le_trans (Nat.le_add_right _ _) hC.1) (Nat.le_trans (Nat.le_add_right _ _) hC.2) ?_
    exact W.lret hx hb hr (fun t ht hW => hret _ _ _ _ _ _ _ t hw P hag ht) P.2.2.1.2.2 dX0_split_46 hlk
  · replace hw := hw.2 c_3
    refine lv_iload_n hx hb dX0_split_8 rfl (lv_at hl 2 rfl) ?_
    refine lv_i2l hx hb dX0_split_9 rfl ?_
    refine lv_lconst (v := 0) hx hb dX0_split_10 (by decide) ?_
    refine lv_ldc2 (v := 48) hx hb hown (hts _ q795) dX0_split_11 ?_
    refine cwc_in S hw ⟨Nat.le_of_ble_eq_true rfl, Nat.le_of_ble_eq_true rfl⟩ ⟨Nat.le_trans (Nat.le_add_right _ _) hC.1, Nat.le_trans (Nat.le_add_right _ _) hC.2⟩ hl.1 (Nat.le_of_ble_eq_true rfl) dX0_split_14 (fun r_4 hw => ?_)
    refine lv_if_eq (tgt := 43) hx hb dX0_split_17 (by decide) (fun c_5 => ?_) (fun c_5 => ?_)
    · replace hw := hw.1 c_5
      refine lv_ldc2 (v := (-4611686018427387904)) hx hb hown (hts _ q1099) dX0_split_43 ?_
      refine W.widen (k := 2) (n := 19) (Nat.le_trans (Nat.le_add_right _ _) hC.1) (Nat.le_trans (Nat.le_add_right _ _) hC.2) ?_
      exact W.lret hx hb hr (fun t ht hW => hret _ _ _ _ _ _ _ t hw P hag ht) P.2.2.1.2.2 dX0_split_46 hlk
    · replace hw := hw.2 c_5
      refine lv_iload_n hx hb dX0_split_20 rfl (lv_at hl 3 rfl) ?_
      refine lv_i2l hx hb dX0_split_21 rfl ?_
      refine lv_lconst (v := 0) hx hb dX0_split_22 (by decide) ?_
      refine lv_ldc2 (v := 48) hx hb hown (hts _ q795) dX0_split_23 ?_
      refine cwc_in S hw ⟨Nat.le_of_ble_eq_true rfl, Nat.le_of_ble_eq_true rfl⟩ ⟨Nat.le_trans (Nat.le_add_right _ _) hC.1, Nat.le_trans (Nat.le_add_right _ _) hC.2⟩ hl.1 (Nat.le_of_ble_eq_true rfl) dX0_split_26 (fun r_6 hw => ?_)
      refine lv_if_eq (tgt := 43) hx hb dX0_split_29 (by decide) (fun c_7 => ?_) (fun c_7 => ?_)
      · replace hw := hw.1 c_7
        refine lv_ldc2 (v := (-4611686018427387904)) hx hb hown (hts _ q1099) dX0_split_43 ?_
        refine W.widen (k := 2) (n := 19) (Nat.le_trans (Nat.le_add_right _ _) hC.1) (Nat.le_trans (Nat.le_add_right _ _) hC.2) ?_
        exact W.lret hx hb hr (fun t ht hW => hret _ _ _ _ _ _ _ t hw P hag ht) P.2.2.1.2.2 dX0_split_46 hlk
      · replace hw := hw.2 c_7
        refine lv_iload hx hb dX0_split_32 (lv_at hl 4 rfl) ?_
        refine lv_i2l hx hb dX0_split_34 rfl ?_
        refine lv_lconst (v := 0) hx hb dX0_split_35 (by decide) ?_
        refine lv_lconst (v := 1) hx hb dX0_split_36 (by decide) ?_
        refine cwc_in S hw ⟨Nat.le_of_ble_eq_true rfl, Nat.le_of_ble_eq_true rfl⟩ ⟨Nat.le_trans (Nat.le_add_right _ _) hC.1, Nat.le_trans (Nat.le_add_right _ _) hC.2⟩ hl.1 (Nat.le_of_ble_eq_true rfl) dX0_split_37 (fun r_8 hw => ?_)
        refine lv_if_ne (tgt := 47) hx hb dX0_split_40 (by decide) (fun c_9 => ?_) (fun c_9 => ?_)
        · replace hw := hw.1 c_9
          refine lv_aload_n hx hb dX0_split_47 rfl (lv_at hl 0 rfl) ?_
          refine lv_aload_n hx hb dX0_split_48 rfl (lv_at hl 0 rfl) ?_
          refine cg_ways X P dX0_split_49 ?_
          refine lv_iload_n hx hb dX0_split_52 rfl (lv_at hl 1 rfl) ?_
          refine c_lget X P hw.1.1 hw.1.2 ⟨Nat.le_of_ble_eq_true rfl, Nat.le_of_ble_eq_true rfl⟩ hl.1 (Nat.le_of_ble_eq_true rfl) ⟨Nat.le_trans (Nat.le_add_right _ _) hC.1, Nat.le_trans (Nat.le_add_right _ _) hC.2⟩ dX0_split_53 (fun hk_10 => ?_)
          replace hw := hw.2
          refine c_castW X P hk_10 dX0_split_56 ?_
          refine c_trial X P hA hag hk_10 hw.1 ⟨Nat.le_of_ble_eq_true rfl, Nat.le_of_ble_eq_true rfl⟩ ⟨Nat.le_trans (show cells + 2 ≤ cells + 2 * 1 by omega) hC.1, Nat.le_trans (show slots + 19 ≤ slots + 19 * 1 by omega) hC.2⟩ hl.1 (Nat.le_of_ble_eq_true rfl) dX0_split_59 (fun k_11 ad1 Kd_12 F_13 Ar_14 H locs ho hk_15 hag hway e0 P => ?_)
          replace hw := hw.2 k_11 Kd_12 F_13 Ar_14 ho
          replace hl := lv_sub hl [0, 2, 3, 4] rfl
          rw [← e0] at hl
          have hC : cells + 2 + 2 * 0 ≤ 2 ∧ slots + 19 + 19 * 0 ≤ 19 := ⟨by have := hC.1; omega, by have := hC.2; omega⟩
          exact kwc_split_J62 X hr hA hret _ _ _ _ hk_15 hag hC P (lv_sub hl [0, 1, 2, 3] rfl) hw
        · replace hw := hw.2 c_9
          refine lv_ldc2 (v := (-4611686018427387904)) hx hb hown (hts _ q1099) dX0_split_43 ?_
          refine W.widen (k := 2) (n := 19) (Nat.le_trans (Nat.le_add_right _ _) hC.1) (Nat.le_trans (Nat.le_add_right _ _) hC.2) ?_
          exact W.lret hx hb hr (fun t ht hW => hret _ _ _ _ _ _ _ t hw P hag ht) P.2.2.1.2.2 dX0_split_46 hlk
def wc_split (Kd : tK) (T : tT) (F : tF) (Ar : tA) (a1 : Int32) (a2 : Int32) (a3 : Int32) (a4 : Int32) (Q : Int64 → tK → tF → tA → Prop) : Prop :=
  (wc_split_J0 Kd T F Ar a1 a2 a3 a4 Q)
set_option maxHeartbeats 4000000 in
theorem twc_split (l : Launch) (D : va_G) (G ad : Nat → Nat) (Kd : tK) (U : tU) (T : tT) (zz : Int32) (F : tF) (Ar : tA) (a1 : Int32) (a2 : Int32) (a3 : Int32) (a4 : Int32) (sz : Nat) (Q : Int64 → tK → tF → tA → Prop) (hw : wc_split Kd T F Ar a1 a2 a3 a4 Q) : Met l yX0_split (ws_ yX0_split cX0_split 12 (some .long)) ({ frames := 204, cells := 2, slots := 19, locals := 4699 }) (va_Pc [.ref (ad 0), .int a1, .int a2, .int a3, .int a4] (cPb D G ad Kd U T zz F Ar sz)) (va_Ql (fun r (u : tM) => Q r u.2.1 u.2.2.1 u.2.2.2) (cBM D G ad Kd U T zz sz) (cReg G ad Kd U zz sz)) 2 19 (cReg G ad Kd U zz sz) := by
  refine c_entry (by decide) (Nat.le_of_ble_eq_true rfl) ?_
  intro p e s m args below meth c ls X hr hsz P hl
  subst hsz
  have X : cCx p s m args meth c cX0_split 12 RX0 D G := X
  have hl : lv_has ls 12 [(0, .ref (ad 0)), (1, .int a1), (2, .int a2), (3, .int a3), (4, .int a4)] := hl
  have hA : ∀ q, s.heap.size ≤ q → cReg G ad Kd U zz s.heap.size q := fun q h => Or.inr h
  have hag : cAg G U zz ad Kd ad Kd := ⟨fun k hk => ⟨rfl, hk⟩, fun _ => rfl⟩
  have hC : 0 + 2 * 1 ≤ 2 ∧ 0 + 19 * 1 ≤ 19 := ⟨Nat.le_of_ble_eq_true rfl, Nat.le_of_ble_eq_true rfl⟩
  have hret : ∀ (r : Int64) (ad1 : Nat → Nat) (Kd1 : tK) (F : tF) (Ar : tA) (H : Heap) (locs : List Loc) (t : State), Q r Kd1 F Ar → cP D (cReg G ad Kd U zz s.heap.size) G ad1 s.heap Kd1 U T zz F Ar H locs → cAg G U zz ad Kd ad1 Kd1 → t.heap = H → (va_Ql (fun r (u : tM) => Q r u.2.1 u.2.2.1 u.2.2.2) (cBM D G ad Kd U T zz s.heap.size) (cReg G ad Kd U zz s.heap.size)) args s (.returned (some (.long r))) t := fun r ad1 Kd1 F Ar H locs t hq P hag ht => ⟨⟨r, (ad1, Kd1, F, Ar), rfl, hq, by show gw_P _ _ _ _ t.heap; rw [ht]; exact P.1, P.2.1, P.2.2.2, fun k hk => (hag.1 k hk).1, hag.2⟩, P.2.2.1.F ht⟩
  exact kwc_split_J0 X hr hA hret _ _ _ _ hag hC P (lv_sub hl [0, 1, 2, 3, 4] rfl) hw
-- finest
def wc_finest_J180 (Kd : tK) (T : tT) (F : tF) (Ar : tA) (y1_30 : Int32) (y2_30 : Int32) (y3_30 : Int32) (y4_30 : Int32) (y5_30 : Int32) (y6_30 : Int32) (y7_30 : Int64) (y9_30 : Int32) (y10_30 : Nat) (y14_30 : Int32) (z0_30 : Int64) (z1_30 : Int64) (Kh120_27 : Int64 → Int32 → Prop) (Q : Int32 → tK → tF → tA → Prop) : Prop :=
  ∀ x12_31 : Int64, x12_31 = (z1_30 + z0_30) → (Kh120_27 x12_31 (y14_30 + 1))
set_option maxHeartbeats 4000000 in
theorem kwc_finest_J180 {Q : Int32 → tK → tF → tA → Prop} {QC : Array Value → State → Outcome → State → Prop} {A : Nat → Prop} {ad0 : Nat → Nat} {Kd0 : tK} (X : cCx p s m args meth c cX0_finest 16 RX0 D G) (hr : meth.sig.returnType = (some .int)) (hA : ∀ q, s.heap.size ≤ q → A q) (hret : ∀ (r : Int32) (ad : Nat → Nat) (Kd : tK) (F : tF) (Ar : tA) (H : Heap) (locs : List Loc) (t : State), Q r Kd F Ar → cP D A G ad s.heap Kd U T zz F Ar H locs → cAg G U zz ad0 Kd0 ad Kd → t.heap = H → QC args s (.returned (some (.int r))) t) {F : tF} {Ar : tA} (y1_30 : Int32) (y2_30 : Int32) (y3_30 : Int32) (y4_30 : Int32) (y5_30 : Int32) (y6_30 : Int32) (y7_30 : Int64) (y9_30 : Int32) (y10_30 : Nat) (y14_30 : Int32) (z0_30 : Int64) (z1_30 : Int64) (Kh120_27 : Int64 → Int32 → Prop) (hky10_30 : Kd y10_30 ≠ none) {cells slots fz : Nat} (hag : cAg G U zz ad0 Kd0 ad Kd) (hC : (cells + 2 * fz ≤ 16 ∧ slots + 19 * fz ≤ 152)) {H : Heap} {locs : List Loc} {ls : Array Slot} (P : cP D A G ad s.heap Kd U T zz F Ar H locs) (hl : lv_has ls 16 [(0, .ref (ad 0)), (1, .int y1_30), (2, .int y2_30), (3, .int y3_30), (4, .int y4_30), (5, .int y5_30), (6, .int y6_30), (7, .long y7_30), (9, .int y9_30), (10, .ref (ad (wo y10_30))), (14, .int y14_30)]) (hw : wc_finest_J180 Kd T F Ar y1_30 y2_30 y3_30 y4_30 y5_30 y6_30 y7_30 y9_30 y10_30 y14_30 z0_30 z1_30 Kh120_27 Q) (hKh120_27 : ∀ (w12_ : Int64) (w14_ : Int32) (H : Heap) (locs : List Loc) (ls : Array Slot), cP D A G ad s.heap Kd U T zz F Ar H locs → lv_has ls 16 [(0, .ref (ad 0)), (1, .int y1_30), (2, .int y2_30), (3, .int y3_30), (4, .int y4_30), (5, .int y5_30), (6, .int y6_30), (7, .long y7_30), (9, .int y9_30), (10, .ref (ad (wo y10_30))), (12, .long w12_), (14, .int w14_)] → Kh120_27 w12_ w14_ → W p l e ({ frames := 206, cells := 16, slots := 152, locals := 4749 }) s m args below meth c H locs cells slots (MQ below QC args s 16 152 A) (F0 m 120 ls [])) : W p l e ({ frames := 206, cells := 16, slots := 152, locals := 4749 }) s m args below meth c H locs cells slots (MQ below QC args s 16 152 A) (F0 m 180 ls [.long z0_30, .long z1_30]) := by
  obtain ⟨hx, hb, hml, hown, hts, -, hlk, -⟩ := id X
  have S : CallFix p m c _ _ s args lw_all RX0 := ⟨hx, hb, hml, hown, hts⟩
  refine lv_ladd hx hb dX0_finest_180 ?_
  refine lv_topl (fun x12_31 ex12_31 => ?_)
  replace hw := hw x12_31 ex12_31
  refine lv_lstore (lv' := [(12, .long x12_31), (0, .ref (ad 0)), (1, .int y1_30), (2, .int y2_30), (3, .int y3_30), (4, .int y4_30), (5, .int y5_30), (6, .int y6_30), (7, .long y7_30), (9, .int y9_30), (10, .ref (ad (wo y10_30))), (14, .int y14_30)]) hx hb dX0_finest_181 hl (by decide) rfl (fun ls hl => ?_)
  refine lv_iinc (v := (y14_30 + 1)) (lv' := [(14, .int (y14_30 + 1)), (12, .long x12_31), (0, .ref (ad 0)), (1, .int y1_30), (2, .int y2_30), (3, .int y3_30), (4, .int y4_30), (5, .int y5_30), (6, .int y6_30), (7, .long y7_30), (9, .int y9_30), (10, .ref (ad (wo y10_30)))]) hx hb dX0_finest_183 hl (k := 11) rfl rfl (by decide) rfl (fun ls hl => ?_)
  refine lv_goto (tgt := 120) hx hb dX0_finest_186 (by decide) ?_
  exact hKh120_27 _ _ _ _ _ P (lv_sub hl [2, 3, 4, 5, 6, 7, 8, 9, 10, 11, 1, 0] rfl) hw
def wc_finest_L120 (Kd : tK) (T : tT) (F : tF) (Ar : tA) (y1_27 : Int32) (y2_27 : Int32) (y3_27 : Int32) (y4_27 : Int32) (y5_27 : Int32) (y6_27 : Int32) (y7_27 : Int64) (y9_27 : Int32) (y10_27 : Nat) (Kx189_27 : Int64 → Prop) (Q : Int32 → tK → tF → tA → Prop) : Nat → Int64 → Int32 → Prop
  | 0, _, _ => False
  | f120 + 1, y12_27, y14_27 =>
    (((F (wa y10_27)) ≤ y14_27 → (Kx189_27 y12_27)) ∧ (¬ (F (wa y10_27)) ≤ y14_27 → vp_in y14_27 16 ∧ ((¬ (Ar 13 y14_27.toNatClampNeg) = (-1) → vp_in y14_27 16 ∧ vp_in y14_27 16 ∧ (wc_finest_J180 Kd T F Ar y1_27 y2_27 y3_27 y4_27 y5_27 y6_27 y7_27 y9_27 y10_27 y14_27 (((Ar 13 y14_27.toNatClampNeg) - (Ar 12 y14_27.toNatClampNeg)).toInt64) y12_27 (wc_finest_L120 Kd T F Ar y1_27 y2_27 y3_27 y4_27 y5_27 y6_27 y7_27 y9_27 y10_27 Kx189_27 Q f120) Q)) ∧ ((Ar 13 y14_27.toNatClampNeg) = (-1) → vp_in y14_27 16 ∧ ((¬ (Ar 12 y14_27.toNatClampNeg) = (-1) → (wc_finest_J180 Kd T F Ar y1_27 y2_27 y3_27 y4_27 y5_27 y6_27 y7_27 y9_27 y10_27 y14_27 24 y12_27 (wc_finest_L120 Kd T F Ar y1_27 y2_27 y3_27 y4_27 y5_27 y6_27 y7_27 y9_27 y10_27 Kx189_27 Q f120) Q)) ∧ ((Ar 12 y14_27.toNatClampNeg) = (-1) → (wc_finest_J180 Kd T F Ar y1_27 y2_27 y3_27 y4_27 y5_27 y6_27 y7_27 y9_27 y10_27 y14_27 0 y12_27 (wc_finest_L120 Kd T F Ar y1_27 y2_27 y3_27 y4_27 y5_27 y6_27 y7_27 y9_27 y10_27 Kx189_27 Q f120) Q)))))))
set_option maxHeartbeats 4000000 in
theorem kwc_finest_L120 (T : tT) {Q : Int32 → tK → tF → tA → Prop} {QC : Array Value → State → Outcome → State → Prop} {A : Nat → Prop} {ad0 : Nat → Nat} {Kd0 : tK} (X : cCx p s m args meth c cX0_finest 16 RX0 D G) (hr : meth.sig.returnType = (some .int)) (hA : ∀ q, s.heap.size ≤ q → A q) (hret : ∀ (r : Int32) (ad : Nat → Nat) (Kd : tK) (F : tF) (Ar : tA) (H : Heap) (locs : List Loc) (t : State), Q r Kd F Ar → cP D A G ad s.heap Kd U T zz F Ar H locs → cAg G U zz ad0 Kd0 ad Kd → t.heap = H → QC args s (.returned (some (.int r))) t) (Kd : tK) (F : tF) (Ar : tA) (y1_27 : Int32) (y2_27 : Int32) (y3_27 : Int32) (y4_27 : Int32) (y5_27 : Int32) (y6_27 : Int32) (y7_27 : Int64) (y9_27 : Int32) (y10_27 : Nat) (Kx189_27 : Int64 → Prop) {cells slots fz : Nat} (hag : cAg G U zz ad0 Kd0 ad Kd) (hC : (cells + 2 * fz ≤ 16 ∧ slots + 19 * fz ≤ 152)) (hky10_27 : Kd y10_27 ≠ none) (hKx189_27 : ∀ (w12_ : Int64) (H : Heap) (locs : List Loc) (ls : Array Slot), cP D A G ad s.heap Kd U T zz F Ar H locs → lv_has ls 16 [(0, .ref (ad 0)), (1, .int y1_27), (2, .int y2_27), (3, .int y3_27), (4, .int y4_27), (5, .int y5_27), (6, .int y6_27), (7, .long y7_27), (9, .int y9_27), (12, .long w12_)] → Kx189_27 w12_ → W p l e ({ frames := 206, cells := 16, slots := 152, locals := 4749 }) s m args below meth c H locs cells slots (MQ below QC args s 16 152 A) (F0 m 189 ls [])) : ∀ (n : Nat) (y12_27 : Int64) (y14_27 : Int32) (H : Heap) (locs : List Loc) (ls : Array Slot), cP D A G ad s.heap Kd U T zz F Ar H locs → lv_has ls 16 [(0, .ref (ad 0)), (1, .int y1_27), (2, .int y2_27), (3, .int y3_27), (4, .int y4_27), (5, .int y5_27), (6, .int y6_27), (7, .long y7_27), (9, .int y9_27), (10, .ref (ad (wo y10_27))), (12, .long y12_27), (14, .int y14_27)] → wc_finest_L120 Kd T F Ar y1_27 y2_27 y3_27 y4_27 y5_27 y6_27 y7_27 y9_27 y10_27 Kx189_27 Q n y12_27 y14_27 → W p l e ({ frames := 206, cells := 16, slots := 152, locals := 4749 }) s m args below meth c H locs cells slots (MQ below QC args s 16 152 A) (F0 m 120 ls []) := by
  obtain ⟨hx, hb, hml, hown, hts, -, hlk, -⟩ := id X
  have S : CallFix p m c _ _ s args lw_all RX0 := ⟨hx, hb, hml, hown, hts⟩
  intro n
  induction n with
  | zero =>
    intro y12_27 y14_27 H locs ls P hl hw
    exact hw.elim
  | succ n ih =>
    intro y12_27 y14_27 H locs ls P hl hw
    have hKh120_27 := ih
    refine lv_iload hx hb dX0_finest_120 (lv_at hl 11 rfl) ?_
    refine lv_aload hx hb dX0_finest_122 (lv_at hl 9 rfl) ?_
    refine c_wg_carts X P hky10_27 dX0_finest_124 ?_
    refine lv_icmp_ge (tgt := 189) hx hb dX0_finest_127 (by decide) (fun c_28 => ?_) (fun c_28 => ?_)
    · replace hw := hw.1 c_28
      exact hKx189_27 _ _ _ _ P (lv_sub hl [0, 1, 2, 3, 4, 5, 6, 7, 8, 10] rfl) hw
    · replace hw := hw.2 c_28
      refine lv_lload hx hb dX0_finest_130 (lv_at hl 10 rfl) ?_
      refine lv_aload_n hx hb dX0_finest_132 rfl (lv_at hl 0 rfl) ?_
      refine cg_passed X P dX0_finest_133 ?_
      refine lv_iload hx hb dX0_finest_136 (lv_at hl 11 rfl) ?_
      refine c_iald X P (rfl : cArr Kd 13 = some (0, 16)) hw.1 dX0_finest_138 ?_
      replace hw := hw.2
      refine lv_iconst (v := (-1)) hx hb dX0_finest_139 (by decide) ?_
      refine lv_icmp_ne (tgt := 164) hx hb dX0_finest_140 (by decide) (fun c_29 => ?_) (fun c_29 => ?_)
      · replace hw := hw.1 c_29
        refine lv_aload_n hx hb dX0_finest_164 rfl (lv_at hl 0 rfl) ?_
        refine cg_passed X P dX0_finest_165 ?_
        refine lv_iload hx hb dX0_finest_168 (lv_at hl 11 rfl) ?_
        refine c_iald X P (rfl : cArr Kd 13 = some (0, 16)) hw.1 dX0_finest_170 ?_
        replace hw := hw.2
        refine lv_aload_n hx hb dX0_finest_171 rfl (lv_at hl 0 rfl) ?_
        refine cg_came X P dX0_finest_172 ?_
        refine lv_iload hx hb dX0_finest_175 (lv_at hl 11 rfl) ?_
        refine c_iald X P (rfl : cArr Kd 12 = some (0, 16)) hw.1 dX0_finest_177 ?_
        replace hw := hw.2
        refine lv_isub hx hb dX0_finest_178 ?_
        refine lv_i2l hx hb dX0_finest_179 rfl ?_
        exact kwc_finest_J180 X hr hA hret _ _ _ _ _ _ _ _ _ _ _ _ _ hky10_27 (fz := fz) hag hC P (lv_sub hl [0, 1, 2, 3, 4, 5, 6, 7, 8, 9, 11] rfl) hw hKh120_27
      · replace hw := hw.2 c_29
        refine lv_aload_n hx hb dX0_finest_143 rfl (lv_at hl 0 rfl) ?_
        refine cg_came X P dX0_finest_144 ?_
        refine lv_iload hx hb dX0_finest_147 (lv_at hl 11 rfl) ?_
        refine c_iald X P (rfl : cArr Kd 12 = some (0, 16)) hw.1 dX0_finest_149 ?_
        replace hw := hw.2
        refine lv_iconst (v := (-1)) hx hb dX0_finest_150 (by decide) ?_
        refine lv_icmp_ne (tgt := 158) hx hb dX0_finest_151 (by decide) (fun c_32 => ?_) (fun c_32 => ?_)
        · replace hw := hw.1 c_32
          refine lv_ldc2 (v := 24) hx hb hown (hts _ q758) dX0_finest_158 ?_
          refine lv_goto (tgt := 180) hx hb dX0_finest_161 (by decide) ?_
          exact kwc_finest_J180 X hr hA hret _ _ _ _ _ _ _ _ _ _ _ _ _ hky10_27 (fz := fz) hag hC P (lv_sub hl [0, 1, 2, 3, 4, 5, 6, 7, 8, 9, 11] rfl) hw hKh120_27
        · replace hw := hw.2 c_32
          refine lv_lconst (v := 0) hx hb dX0_finest_154 (by decide) ?_
          refine lv_goto (tgt := 180) hx hb dX0_finest_155 (by decide) ?_
          exact kwc_finest_J180 X hr hA hret _ _ _ _ _ _ _ _ _ _ _ _ _ hky10_27 (fz := fz) hag hC P (lv_sub hl [0, 1, 2, 3, 4, 5, 6, 7, 8, 9, 11] rfl) hw hKh120_27
def wc_finest_J214 (Kd : tK) (T : tT) (F : tF) (Ar : tA) (y1_36 : Int32) (y2_36 : Int32) (y3_36 : Int32) (y4_36 : Int32) (y5_36 : Int32) (y6_36 : Int32) (y7_36 : Int64) (y9_36 : Int32) (Kh61_11 : tK → tF → tA → Int32 → Int64 → Int32 → Prop) (Q : Int32 → tK → tF → tA → Prop) : Prop :=
  (Kh61_11 Kd F Ar y6_36 y7_36 (y9_36 + 1))
set_option maxHeartbeats 4000000 in
theorem kwc_finest_J214 {Q : Int32 → tK → tF → tA → Prop} {QC : Array Value → State → Outcome → State → Prop} {A : Nat → Prop} {ad0 : Nat → Nat} {Kd0 : tK} (X : cCx p s m args meth c cX0_finest 16 RX0 D G) (hr : meth.sig.returnType = (some .int)) (hA : ∀ q, s.heap.size ≤ q → A q) (hret : ∀ (r : Int32) (ad : Nat → Nat) (Kd : tK) (F : tF) (Ar : tA) (H : Heap) (locs : List Loc) (t : State), Q r Kd F Ar → cP D A G ad s.heap Kd U T zz F Ar H locs → cAg G U zz ad0 Kd0 ad Kd → t.heap = H → QC args s (.returned (some (.int r))) t) {F : tF} {Ar : tA} (y1_36 : Int32) (y2_36 : Int32) (y3_36 : Int32) (y4_36 : Int32) (y5_36 : Int32) (y6_36 : Int32) (y7_36 : Int64) (y9_36 : Int32) (Kh61_11 : tK → tF → tA → Int32 → Int64 → Int32 → Prop) {cells slots fz : Nat} (hag : cAg G U zz ad0 Kd0 ad Kd) (hC : (cells + 2 * fz ≤ 16 ∧ slots + 19 * fz ≤ 152)) {H : Heap} {locs : List Loc} {ls : Array Slot} (P : cP D A G ad s.heap Kd U T zz F Ar H locs) (hl : lv_has ls 16 [(0, .ref (ad 0)), (1, .int y1_36), (2, .int y2_36), (3, .int y3_36), (4, .int y4_36), (5, .int y5_36), (6, .int y6_36), (7, .long y7_36), (9, .int y9_36)]) (hw : wc_finest_J214 Kd T F Ar y1_36 y2_36 y3_36 y4_36 y5_36 y6_36 y7_36 y9_36 Kh61_11 Q) (hKh61_11 : ∀ (Kd_ : tK) (F_ : tF) (Ar_ : tA) (w6_ : Int32) (w7_ : Int64) (w9_ : Int32) (ad : Nat → Nat) (cells slots : Nat) (H : Heap) (locs : List Loc) (ls : Array Slot), cAg G U zz ad0 Kd0 ad Kd_ → (cells + 2 * fz ≤ 16 ∧ slots + 19 * fz ≤ 152) → cP D A G ad s.heap Kd_ U T zz F_ Ar_ H locs → lv_has ls 16 [(0, .ref (ad 0)), (1, .int y1_36), (2, .int y2_36), (3, .int y3_36), (4, .int y4_36), (5, .int y5_36), (6, .int w6_), (7, .long w7_), (9, .int w9_)] → Kh61_11 Kd_ F_ Ar_ w6_ w7_ w9_ → W p l e ({ frames := 206, cells := 16, slots := 152, locals := 4749 }) s m args below meth c H locs cells slots (MQ below QC args s 16 152 A) (F0 m 61 ls [])) : W p l e ({ frames := 206, cells := 16, slots := 152, locals := 4749 }) s m args below meth c H locs cells slots (MQ below QC args s 16 152 A) (F0 m 214 ls []) := by
  obtain ⟨hx, hb, hml, hown, hts, -, hlk, -⟩ := id X
  have S : CallFix p m c _ _ s args lw_all RX0 := ⟨hx, hb, hml, hown, hts⟩
  refine lv_iinc (v := (y9_36 + 1)) (lv' := [(9, .int (y9_36 + 1)), (0, .ref (ad 0)), (1, .int y1_36), (2, .int y2_36), (3, .int y3_36), (4, .int y4_36), (5, .int y5_36), (6, .int y6_36), (7, .long y7_36)]) hx hb dX0_finest_214 hl (k := 8) rfl rfl (by decide) rfl (fun ls hl => ?_)
  refine lv_goto (tgt := 61) hx hb dX0_finest_217 (by decide) ?_
  exact hKh61_11 _ _ _ _ _ _ _ _ _ _ _ _ hag ⟨by omega, by omega⟩ P (lv_sub hl [1, 2, 3, 4, 5, 6, 7, 8, 0] rfl) hw
def wc_finest_J206 (Kd : tK) (T : tT) (F : tF) (Ar : tA) (y1_35 : Int32) (y2_35 : Int32) (y3_35 : Int32) (y4_35 : Int32) (y5_35 : Int32) (y9_35 : Int32) (y12_35 : Int64) (Kh61_11 : tK → tF → tA → Int32 → Int64 → Int32 → Prop) (Q : Int32 → tK → tF → tA → Prop) : Prop :=
  (wc_finest_J214 Kd T F Ar y1_35 y2_35 y3_35 y4_35 y5_35 y9_35 y12_35 y9_35 Kh61_11 Q)
set_option maxHeartbeats 4000000 in
theorem kwc_finest_J206 {Q : Int32 → tK → tF → tA → Prop} {QC : Array Value → State → Outcome → State → Prop} {A : Nat → Prop} {ad0 : Nat → Nat} {Kd0 : tK} (X : cCx p s m args meth c cX0_finest 16 RX0 D G) (hr : meth.sig.returnType = (some .int)) (hA : ∀ q, s.heap.size ≤ q → A q) (hret : ∀ (r : Int32) (ad : Nat → Nat) (Kd : tK) (F : tF) (Ar : tA) (H : Heap) (locs : List Loc) (t : State), Q r Kd F Ar → cP D A G ad s.heap Kd U T zz F Ar H locs → cAg G U zz ad0 Kd0 ad Kd → t.heap = H → QC args s (.returned (some (.int r))) t) {F : tF} {Ar : tA} (y1_35 : Int32) (y2_35 : Int32) (y3_35 : Int32) (y4_35 : Int32) (y5_35 : Int32) (y9_35 : Int32) (y12_35 : Int64) (Kh61_11 : tK → tF → tA → Int32 → Int64 → Int32 → Prop) {cells slots fz : Nat} (hag : cAg G U zz ad0 Kd0 ad Kd) (hC : (cells + 2 * fz ≤ 16 ∧ slots + 19 * fz ≤ 152)) {H : Heap} {locs : List Loc} {ls : Array Slot} (P : cP D A G ad s.heap Kd U T zz F Ar H locs) (hl : lv_has ls 16 [(0, .ref (ad 0)), (1, .int y1_35), (2, .int y2_35), (3, .int y3_35), (4, .int y4_35), (5, .int y5_35), (9, .int y9_35), (12, .long y12_35)]) (hw : wc_finest_J206 Kd T F Ar y1_35 y2_35 y3_35 y4_35 y5_35 y9_35 y12_35 Kh61_11 Q) (hKh61_11 : ∀ (Kd_ : tK) (F_ : tF) (Ar_ : tA) (w6_ : Int32) (w7_ : Int64) (w9_ : Int32) (ad : Nat → Nat) (cells slots : Nat) (H : Heap) (locs : List Loc) (ls : Array Slot), cAg G U zz ad0 Kd0 ad Kd_ → (cells + 2 * fz ≤ 16 ∧ slots + 19 * fz ≤ 152) → cP D A G ad s.heap Kd_ U T zz F_ Ar_ H locs → lv_has ls 16 [(0, .ref (ad 0)), (1, .int y1_35), (2, .int y2_35), (3, .int y3_35), (4, .int y4_35), (5, .int y5_35), (6, .int w6_), (7, .long w7_), (9, .int w9_)] → Kh61_11 Kd_ F_ Ar_ w6_ w7_ w9_ → W p l e ({ frames := 206, cells := 16, slots := 152, locals := 4749 }) s m args below meth c H locs cells slots (MQ below QC args s 16 152 A) (F0 m 61 ls [])) : W p l e ({ frames := 206, cells := 16, slots := 152, locals := 4749 }) s m args below meth c H locs cells slots (MQ below QC args s 16 152 A) (F0 m 206 ls []) := by
  obtain ⟨hx, hb, hml, hown, hts, -, hlk, -⟩ := id X
  have S : CallFix p m c _ _ s args lw_all RX0 := ⟨hx, hb, hml, hown, hts⟩
  refine lv_iload hx hb dX0_finest_206 (lv_at hl 6 rfl) ?_
  refine lv_istore (lv' := [(6, .int y9_35), (0, .ref (ad 0)), (1, .int y1_35), (2, .int y2_35), (3, .int y3_35), (4, .int y4_35), (5, .int y5_35), (9, .int y9_35), (12, .long y12_35)]) hx hb dX0_finest_208 hl (by decide) rfl (fun ls hl => ?_)
  refine lv_lload hx hb dX0_finest_210 (lv_at hl 8 rfl) ?_
  refine lv_lstore (lv' := [(7, .long y12_35), (6, .int y9_35), (0, .ref (ad 0)), (1, .int y1_35), (2, .int y2_35), (3, .int y3_35), (4, .int y4_35), (5, .int y5_35), (9, .int y9_35), (12, .long y12_35)]) hx hb dX0_finest_212 hl (by decide) rfl (fun ls hl => ?_)
  exact kwc_finest_J214 X hr hA hret _ _ _ _ _ _ _ _ _ (fz := fz) hag hC P (lv_sub hl [2, 3, 4, 5, 6, 7, 1, 0, 8] rfl) hw hKh61_11
def wc_finest_J96 (Kd : tK) (T : tT) (F : tF) (Ar : tA) (y1_20 : Int32) (y2_20 : Int32) (y3_20 : Int32) (y4_20 : Int32) (y5_20 : Int32) (y6_20 : Int32) (y7_20 : Int64) (y9_20 : Int32) (z0_20 : Nat) (Kh61_11 : tK → tF → tA → Int32 → Int64 → Int32 → Prop) (Q : Int32 → tK → tF → tA → Prop) : Prop :=
  wc_moves Kd T F Ar z0_20 y4_20 (fun r_21 F_22 Ar_23 => wc_runs Kd T F_22 Ar_23 z0_20 (fun F_25 Ar_26 => (∃ n120, wc_finest_L120 Kd T F_25 Ar_26 y1_20 y2_20 y3_20 y4_20 y5_20 y6_20 y7_20 y9_20 z0_20 (fun (x12_33 : Int64) => ((y6_20 = (-1) → (wc_finest_J206 Kd T F_25 Ar_26 y1_20 y2_20 y3_20 y4_20 y5_20 y9_20 x12_33 Kh61_11 Q)) ∧ (¬ y6_20 = (-1) → ((x12_33 < y7_20 → (wc_finest_J206 Kd T F_25 Ar_26 y1_20 y2_20 y3_20 y4_20 y5_20 y9_20 x12_33 Kh61_11 Q)) ∧ (¬ x12_33 < y7_20 → (wc_finest_J214 Kd T F_25 Ar_26 y1_20 y2_20 y3_20 y4_20 y5_20 y6_20 y7_20 y9_20 Kh61_11 Q)))))) Q n120 0 0)))
set_option maxHeartbeats 4000000 in
theorem kwc_finest_J96 {Q : Int32 → tK → tF → tA → Prop} {QC : Array Value → State → Outcome → State → Prop} {A : Nat → Prop} {ad0 : Nat → Nat} {Kd0 : tK} (X : cCx p s m args meth c cX0_finest 16 RX0 D G) (hr : meth.sig.returnType = (some .int)) (hA : ∀ q, s.heap.size ≤ q → A q) (hret : ∀ (r : Int32) (ad : Nat → Nat) (Kd : tK) (F : tF) (Ar : tA) (H : Heap) (locs : List Loc) (t : State), Q r Kd F Ar → cP D A G ad s.heap Kd U T zz F Ar H locs → cAg G U zz ad0 Kd0 ad Kd → t.heap = H → QC args s (.returned (some (.int r))) t) {F : tF} {Ar : tA} (y1_20 : Int32) (y2_20 : Int32) (y3_20 : Int32) (y4_20 : Int32) (y5_20 : Int32) (y6_20 : Int32) (y7_20 : Int64) (y9_20 : Int32) (z0_20 : Nat) (Kh61_11 : tK → tF → tA → Int32 → Int64 → Int32 → Prop) (hkz0_20 : Kd z0_20 ≠ none) {cells slots fz : Nat} (hag : cAg G U zz ad0 Kd0 ad Kd) (hC : (cells + 2 * fz ≤ 16 ∧ slots + 19 * fz ≤ 152)) {H : Heap} {locs : List Loc} {ls : Array Slot} (P : cP D A G ad s.heap Kd U T zz F Ar H locs) (hl : lv_has ls 16 [(0, .ref (ad 0)), (1, .int y1_20), (2, .int y2_20), (3, .int y3_20), (4, .int y4_20), (5, .int y5_20), (6, .int y6_20), (7, .long y7_20), (9, .int y9_20)]) (hw : wc_finest_J96 Kd T F Ar y1_20 y2_20 y3_20 y4_20 y5_20 y6_20 y7_20 y9_20 z0_20 Kh61_11 Q) (hKh61_11 : ∀ (Kd_ : tK) (F_ : tF) (Ar_ : tA) (w6_ : Int32) (w7_ : Int64) (w9_ : Int32) (ad : Nat → Nat) (cells slots : Nat) (H : Heap) (locs : List Loc) (ls : Array Slot), cAg G U zz ad0 Kd0 ad Kd_ → (cells + 2 * fz ≤ 16 ∧ slots + 19 * fz ≤ 152) → cP D A G ad s.heap Kd_ U T zz F_ Ar_ H locs → lv_has ls 16 [(0, .ref (ad 0)), (1, .int y1_20), (2, .int y2_20), (3, .int y3_20), (4, .int y4_20), (5, .int y5_20), (6, .int w6_), (7, .long w7_), (9, .int w9_)] → Kh61_11 Kd_ F_ Ar_ w6_ w7_ w9_ → W p l e ({ frames := 206, cells := 16, slots := 152, locals := 4749 }) s m args below meth c H locs cells slots (MQ below QC args s 16 152 A) (F0 m 61 ls [])) : W p l e ({ frames := 206, cells := 16, slots := 152, locals := 4749 }) s m args below meth c H locs cells slots (MQ below QC args s 16 152 A) (F0 m 96 ls [.ref (ad (wo z0_20))]) := by
  obtain ⟨hx, hb, hml, hown, hts, -, hlk, -⟩ := id X
  have S : CallFix p m c _ _ s args lw_all RX0 := ⟨hx, hb, hml, hown, hts⟩
  refine lv_astore (lv' := [(10, .ref (ad (wo z0_20))), (0, .ref (ad 0)), (1, .int y1_20), (2, .int y2_20), (3, .int y3_20), (4, .int y4_20), (5, .int y5_20), (6, .int y6_20), (7, .long y7_20), (9, .int y9_20)]) hx hb dX0_finest_96 hl (by decide) rfl (fun ls hl => ?_)
  refine lv_aload_n hx hb dX0_finest_98 rfl (lv_at hl 1 rfl) ?_
  refine lv_aload hx hb dX0_finest_99 (lv_at hl 0 rfl) ?_
  refine lv_iload hx hb dX0_finest_101 (lv_at hl 5 rfl) ?_
  refine cwc_moves X P hA hw ⟨Nat.le_of_ble_eq_true rfl, Nat.le_of_ble_eq_true rfl⟩ ⟨Nat.le_trans (Nat.le_add_right _ _) hC.1, Nat.le_trans (Nat.le_add_right _ _) hC.2⟩ hl.1 (Nat.le_of_ble_eq_true rfl) dX0_finest_103 (fun r_21 F_22 Ar_23 H locs hw P => ?_)
  refine lv_istore (lv' := [(11, .int r_21), (10, .ref (ad (wo z0_20))), (0, .ref (ad 0)), (1, .int y1_20), (2, .int y2_20), (3, .int y3_20), (4, .int y4_20), (5, .int y5_20), (6, .int y6_20), (7, .long y7_20), (9, .int y9_20)]) hx hb dX0_finest_106 hl (by decide) rfl (fun ls hl => ?_)
  refine lv_aload_n hx hb dX0_finest_108 rfl (lv_at hl 2 rfl) ?_
  refine lv_aload hx hb dX0_finest_109 (lv_at hl 1 rfl) ?_
  refine cwc_runs X P hA hw ⟨Nat.le_of_ble_eq_true rfl, Nat.le_of_ble_eq_true rfl⟩ ⟨Nat.le_trans (Nat.le_add_right _ _) hC.1, Nat.le_trans (Nat.le_add_right _ _) hC.2⟩ hl.1 (Nat.le_of_ble_eq_true rfl) dX0_finest_111 (fun F_25 Ar_26 H locs hw P => ?_)
  refine lv_lconst (v := 0) hx hb dX0_finest_114 (by decide) ?_
  refine lv_lstore (lv' := [(12, .long 0), (11, .int r_21), (10, .ref (ad (wo z0_20))), (0, .ref (ad 0)), (1, .int y1_20), (2, .int y2_20), (3, .int y3_20), (4, .int y4_20), (5, .int y5_20), (6, .int y6_20), (7, .long y7_20), (9, .int y9_20)]) hx hb dX0_finest_115 hl (by decide) rfl (fun ls hl => ?_)
  refine lv_iconst (v := 0) hx hb dX0_finest_117 (by decide) ?_
  refine lv_istore (lv' := [(14, .int 0), (12, .long 0), (11, .int r_21), (10, .ref (ad (wo z0_20))), (0, .ref (ad 0)), (1, .int y1_20), (2, .int y2_20), (3, .int y3_20), (4, .int y4_20), (5, .int y5_20), (6, .int y6_20), (7, .long y7_20), (9, .int y9_20)]) hx hb dX0_finest_118 hl (by decide) rfl (fun ls hl => ?_)
  obtain ⟨n_38, hw⟩ := hw
  refine kwc_finest_L120 _ X hr hA hret _ _ _ _ _ _ _ _ _ _ _ _ _ (fz := fz) hag hC  hkz0_20 ?_ n_38 _ _ _ _ _ P (lv_sub hl [4, 5, 6, 7, 8, 9, 10, 11, 12, 3, 1, 0] rfl) hw
  · intro x12_33 H locs ls P hl hw
    refine lv_iload hx hb dX0_finest_189 (lv_at hl 6 rfl) ?_
    refine lv_iconst (v := (-1)) hx hb dX0_finest_191 (by decide) ?_
    refine lv_icmp_eq (tgt := 206) hx hb dX0_finest_192 (by decide) (fun c_34 => ?_) (fun c_34 => ?_)
    · replace hw := hw.1 c_34
      exact kwc_finest_J206 X hr hA hret _ _ _ _ _ _ _ _ (fz := fz) hag hC P (lv_sub hl [0, 1, 2, 3, 4, 5, 8, 9] rfl) hw hKh61_11
    · replace hw := hw.2 c_34
      refine lv_lload hx hb dX0_finest_195 (lv_at hl 9 rfl) ?_
      refine lv_lload hx hb dX0_finest_197 (lv_at hl 7 rfl) ?_
      refine lc_lt (tgt := 206) hx hb dX0_finest_199 dX0_finest_200 (by decide) (fun c_37 => ?_) (fun c_37 => ?_)
      · replace hw := hw.1 c_37
        exact kwc_finest_J206 X hr hA hret _ _ _ _ _ _ _ _ (fz := fz) hag hC P (lv_sub hl [0, 1, 2, 3, 4, 5, 8, 9] rfl) hw hKh61_11
      · replace hw := hw.2 c_37
        refine lv_goto (tgt := 214) hx hb dX0_finest_203 (by decide) ?_
        exact kwc_finest_J214 X hr hA hret _ _ _ _ _ _ _ _ _ (fz := fz) hag hC P (lv_sub hl [0, 1, 2, 3, 4, 5, 6, 7, 8] rfl) hw hKh61_11
def wc_finest_L61 (T : tT) (y1_11 : Int32) (y2_11 : Int32) (y3_11 : Int32) (y4_11 : Int32) (y5_11 : Int32) (Kx220_11 : tK → tF → tA → Int32 → Prop) (Q : Int32 → tK → tF → tA → Prop) : Nat → tK → tF → tA → Int32 → Int64 → Int32 → Prop
  | 0, _, _, _, _, _, _ => False
  | f61 + 1, Kd, F, Ar, y6_11, y7_11, y9_11 =>
    (((8 : Int32) ≤ y9_11 → (Kx220_11 Kd F Ar y6_11)) ∧ (¬ (8 : Int32) ≤ y9_11 → vp_in ((24 * y2_11) + y3_11) 48 ∧ ∀ Ar_13 : tA, Ar_13 = aset Ar 2 ((24 * y2_11) + y3_11).toNatClampNeg y9_11 → (¬ y1_11 < 0 ∧ y1_11 < F 32) ∧ trOK Kd Ar_13 (y1_11.toNatClampNeg) ∧ ∀ (k_15 : Nat) (Kd_16 : tK) (F_17 : tF) (Ar_18 : tA), trOut Kd F Ar_13 (y1_11.toNatClampNeg) k_15 Kd_16 F_17 Ar_18 → (wc_finest_J96 Kd_16 T F_17 Ar_18 y1_11 y2_11 y3_11 y4_11 y5_11 y6_11 y7_11 y9_11 (8 + k_15) (wc_finest_L61 T y1_11 y2_11 y3_11 y4_11 y5_11 Kx220_11 Q f61) Q)))
set_option maxHeartbeats 4000000 in
theorem kwc_finest_L61 (T : tT) {Q : Int32 → tK → tF → tA → Prop} {QC : Array Value → State → Outcome → State → Prop} {A : Nat → Prop} {ad0 : Nat → Nat} {Kd0 : tK} (X : cCx p s m args meth c cX0_finest 16 RX0 D G) (hr : meth.sig.returnType = (some .int)) (hA : ∀ q, s.heap.size ≤ q → A q) (hret : ∀ (r : Int32) (ad : Nat → Nat) (Kd : tK) (F : tF) (Ar : tA) (H : Heap) (locs : List Loc) (t : State), Q r Kd F Ar → cP D A G ad s.heap Kd U T zz F Ar H locs → cAg G U zz ad0 Kd0 ad Kd → t.heap = H → QC args s (.returned (some (.int r))) t) (y1_11 : Int32) (y2_11 : Int32) (y3_11 : Int32) (y4_11 : Int32) (y5_11 : Int32) (Kx220_11 : tK → tF → tA → Int32 → Prop) (hKx220_11 : ∀ (Kd_ : tK) (F_ : tF) (Ar_ : tA) (w6_ : Int32) (ad : Nat → Nat) (cells slots : Nat) (H : Heap) (locs : List Loc) (ls : Array Slot), cAg G U zz ad0 Kd0 ad Kd_ → (cells + 2 * 0 ≤ 16 ∧ slots + 19 * 0 ≤ 152) → cP D A G ad s.heap Kd_ U T zz F_ Ar_ H locs → lv_has ls 16 [(0, .ref (ad 0)), (2, .int y2_11), (3, .int y3_11), (5, .int y5_11), (6, .int w6_)] → Kx220_11 Kd_ F_ Ar_ w6_ → W p l e ({ frames := 206, cells := 16, slots := 152, locals := 4749 }) s m args below meth c H locs cells slots (MQ below QC args s 16 152 A) (F0 m 220 ls [])) : ∀ (n : Nat) (Kd : tK) (F : tF) (Ar : tA) (y6_11 : Int32) (y7_11 : Int64) (y9_11 : Int32) (ad : Nat → Nat) (cells slots : Nat) (H : Heap) (locs : List Loc) (ls : Array Slot), cAg G U zz ad0 Kd0 ad Kd → (cells + 2 * n ≤ 16 ∧ slots + 19 * n ≤ 152) → cP D A G ad s.heap Kd U T zz F Ar H locs → lv_has ls 16 [(0, .ref (ad 0)), (1, .int y1_11), (2, .int y2_11), (3, .int y3_11), (4, .int y4_11), (5, .int y5_11), (6, .int y6_11), (7, .long y7_11), (9, .int y9_11)] → wc_finest_L61 T y1_11 y2_11 y3_11 y4_11 y5_11 Kx220_11 Q n Kd F Ar y6_11 y7_11 y9_11 → W p l e ({ frames := 206, cells := 16, slots := 152, locals := 4749 }) s m args below meth c H locs cells slots (MQ below QC args s 16 152 A) (F0 m 61 ls []) := by
  obtain ⟨hx, hb, hml, hown, hts, -, hlk, -⟩ := id X
  have S : CallFix p m c _ _ s args lw_all RX0 := ⟨hx, hb, hml, hown, hts⟩
  intro n
  induction n with
  | zero =>
    intro Kd F Ar y6_11 y7_11 y9_11 ad cells slots H locs ls hag hC P hl hw
    exact hw.elim
  | succ n ih =>
    intro Kd F Ar y6_11 y7_11 y9_11 ad cells slots H locs ls hag hC P hl hw
    have hKh61_11 := ih
    refine lv_iload hx hb dX0_finest_61 (lv_at hl 8 rfl) ?_
    refine lv_bipush (v := 8) hx hb dX0_finest_63 (by decide) ?_
    refine lv_icmp_ge (tgt := 220) hx hb dX0_finest_65 (by decide) (fun c_12 => ?_) (fun c_12 => ?_)
    · replace hw := hw.1 c_12
      exact hKx220_11 _ _ _ _ _ _ _ _ _ _ hag ⟨by omega, by omega⟩ P (lv_sub hl [0, 2, 3, 5, 6] rfl) hw
    · replace hw := hw.2 c_12
      refine lv_aload_n hx hb dX0_finest_68 rfl (lv_at hl 0 rfl) ?_
      refine cg_toll X P dX0_finest_69 ?_
      refine lv_bipush (v := 24) hx hb dX0_finest_72 (by decide) ?_
      refine lv_iload_n hx hb dX0_finest_74 rfl (lv_at hl 2 rfl) ?_
      refine lv_imul hx hb dX0_finest_75 ?_
      refine lv_iload_n hx hb dX0_finest_76 rfl (lv_at hl 3 rfl) ?_
      refine lv_iadd hx hb dX0_finest_77 ?_
      refine lv_iload hx hb dX0_finest_78 (lv_at hl 8 rfl) ?_
      refine c_iast X P (rfl : cArr Kd 2 = some (0, 48)) hw.1 dX0_finest_80 (fun Ar_13 H locs eAr_13 P _ => ?_)
      replace hw := hw.2
      replace hw := hw Ar_13 eAr_13
      refine lv_aload_n hx hb dX0_finest_81 rfl (lv_at hl 0 rfl) ?_
      refine lv_aload_n hx hb dX0_finest_82 rfl (lv_at hl 0 rfl) ?_
      refine cg_ways X P dX0_finest_83 ?_
      refine lv_iload_n hx hb dX0_finest_86 rfl (lv_at hl 1 rfl) ?_
      refine c_lget X P hw.1.1 hw.1.2 ⟨Nat.le_of_ble_eq_true rfl, Nat.le_of_ble_eq_true rfl⟩ hl.1 (Nat.le_of_ble_eq_true rfl) ⟨Nat.le_trans (Nat.le_add_right _ _) hC.1, Nat.le_trans (Nat.le_add_right _ _) hC.2⟩ dX0_finest_87 (fun hk_14 => ?_)
      replace hw := hw.2
      refine c_castW X P hk_14 dX0_finest_90 ?_
      refine c_trial X P hA hag hk_14 hw.1 ⟨Nat.le_of_ble_eq_true rfl, Nat.le_of_ble_eq_true rfl⟩ ⟨Nat.le_trans (show cells + 2 ≤ cells + 2 * (n + 1) by omega) hC.1, Nat.le_trans (show slots + 19 ≤ slots + 19 * (n + 1) by omega) hC.2⟩ hl.1 (Nat.le_of_ble_eq_true rfl) dX0_finest_93 (fun k_15 ad1 Kd_16 F_17 Ar_18 H locs ho hk_19 hag hway e0 P => ?_)
      replace hw := hw.2 k_15 Kd_16 F_17 Ar_18 ho
      replace hl := lv_sub hl [0, 1, 2, 3, 4, 5, 6, 7, 8] rfl
      rw [← e0] at hl
      have hC : cells + 2 + 2 * n ≤ 16 ∧ slots + 19 + 19 * n ≤ 152 := ⟨by have := hC.1; omega, by have := hC.2; omega⟩
      exact kwc_finest_J96 X hr hA hret _ _ _ _ _ _ _ _ _ _ hk_19 (fz := n) hag hC P (lv_sub hl [0, 1, 2, 3, 4, 5, 6, 7, 8] rfl) hw hKh61_11
def wc_finest_J220 (Kd : tK) (T : tT) (F : tF) (Ar : tA) (y2_43 : Int32) (y3_43 : Int32) (y5_43 : Int32) (y6_43 : Int32) (Q : Int32 → tK → tF → tA → Prop) : Prop :=
  vp_in ((24 * y2_43) + y3_43) 48 ∧ ∀ Ar_44 : tA, Ar_44 = aset Ar 2 ((24 * y2_43) + y3_43).toNatClampNeg y5_43 → Q y6_43 Kd F Ar_44
set_option maxHeartbeats 4000000 in
theorem kwc_finest_J220 {Q : Int32 → tK → tF → tA → Prop} {QC : Array Value → State → Outcome → State → Prop} {A : Nat → Prop} {ad0 : Nat → Nat} {Kd0 : tK} (X : cCx p s m args meth c cX0_finest 16 RX0 D G) (hr : meth.sig.returnType = (some .int)) (hA : ∀ q, s.heap.size ≤ q → A q) (hret : ∀ (r : Int32) (ad : Nat → Nat) (Kd : tK) (F : tF) (Ar : tA) (H : Heap) (locs : List Loc) (t : State), Q r Kd F Ar → cP D A G ad s.heap Kd U T zz F Ar H locs → cAg G U zz ad0 Kd0 ad Kd → t.heap = H → QC args s (.returned (some (.int r))) t) {F : tF} {Ar : tA} (y2_43 : Int32) (y3_43 : Int32) (y5_43 : Int32) (y6_43 : Int32) {cells slots : Nat} (hag : cAg G U zz ad0 Kd0 ad Kd) (hC : (cells + 2 * 0 ≤ 16 ∧ slots + 19 * 0 ≤ 152)) {H : Heap} {locs : List Loc} {ls : Array Slot} (P : cP D A G ad s.heap Kd U T zz F Ar H locs) (hl : lv_has ls 16 [(0, .ref (ad 0)), (2, .int y2_43), (3, .int y3_43), (5, .int y5_43), (6, .int y6_43)]) (hw : wc_finest_J220 Kd T F Ar y2_43 y3_43 y5_43 y6_43 Q) : W p l e ({ frames := 206, cells := 16, slots := 152, locals := 4749 }) s m args below meth c H locs cells slots (MQ below QC args s 16 152 A) (F0 m 220 ls []) := by
  obtain ⟨hx, hb, hml, hown, hts, -, hlk, -⟩ := id X
  have S : CallFix p m c _ _ s args lw_all RX0 := ⟨hx, hb, hml, hown, hts⟩
  refine lv_aload_n hx hb dX0_finest_220 rfl (lv_at hl 0 rfl) ?_
  refine cg_toll X P dX0_finest_221 ?_
  refine lv_bipush (v := 24) hx hb dX0_finest_224 (by decide) ?_
  refine lv_iload_n hx hb dX0_finest_226 rfl (lv_at hl 1 rfl) ?_
  refine lv_imul hx hb dX0_finest_227 ?_
  refine lv_iload_n hx hb dX0_finest_228 rfl (lv_at hl 2 rfl) ?_
  refine lv_iadd hx hb dX0_finest_229 ?_
  refine lv_iload hx hb dX0_finest_230 (lv_at hl 3 rfl) ?_
  refine c_iast X P (rfl : cArr Kd 2 = some (0, 48)) hw.1 dX0_finest_232 (fun Ar_44 H locs eAr_44 P _ => ?_)
  replace hw := hw.2
  replace hw := hw Ar_44 eAr_44
  refine lv_goto (tgt := 254) hx hb dX0_finest_233 (by decide) ?_
  refine lv_iload hx hb dX0_finest_254 (lv_at hl 4 rfl) ?_
  refine W.widen (k := 16) (n := 152) (Nat.le_trans (Nat.le_add_right _ _) hC.1) (Nat.le_trans (Nat.le_add_right _ _) hC.2) ?_
  exact W.iret hx hb hr (fun t ht hW => hret _ _ _ _ _ _ _ t hw P hag ht) P.2.2.1.2.2 dX0_finest_256 hlk
def wc_finest_J0 (Kd : tK) (T : tT) (F : tF) (Ar : tA) (y1_1 : Int32) (y2_1 : Int32) (y3_1 : Int32) (y4_1 : Int32) (Q : Int32 → tK → tF → tA → Prop) : Prop :=
  wc_isWay Kd T F Ar y1_1 (fun r_2 => ((r_2 = 0 → Q (-5) Kd F Ar) ∧ (¬ r_2 = 0 → wc_isGate y2_1 (fun r_4 => ((r_4 = 0 → Q (-5) Kd F Ar) ∧ (¬ r_4 = 0 → wc_isMinute y3_1 (fun r_6 => ((¬ r_6 = 0 → wc_in (y4_1.toInt64) 0 1 (fun r_8 => ((¬ r_8 = 0 → vp_in ((24 * y2_1) + y3_1) 48 ∧ ∀ x5_10 : Int32, x5_10 = (Ar 2 ((24 * y2_1) + y3_1).toNatClampNeg) → (∃ n61, n61 ≤ 8 ∧ wc_finest_L61 T y1_1 y2_1 y3_1 y4_1 x5_10 (fun (Kd_39 : tK) (F_40 : tF) (Ar_41 : tA) (x6_42 : Int32) => (wc_finest_J220 Kd_39 T F_40 Ar_41 y2_1 y3_1 x5_10 x6_42 Q)) Q n61 Kd F Ar (-1) 0 0)) ∧ (r_8 = 0 → Q (-7) Kd F Ar)))) ∧ (r_6 = 0 → Q (-5) Kd F Ar)))))))))
set_option maxHeartbeats 4000000 in
theorem kwc_finest_J0 {Q : Int32 → tK → tF → tA → Prop} {QC : Array Value → State → Outcome → State → Prop} {A : Nat → Prop} {ad0 : Nat → Nat} {Kd0 : tK} (X : cCx p s m args meth c cX0_finest 16 RX0 D G) (hr : meth.sig.returnType = (some .int)) (hA : ∀ q, s.heap.size ≤ q → A q) (hret : ∀ (r : Int32) (ad : Nat → Nat) (Kd : tK) (F : tF) (Ar : tA) (H : Heap) (locs : List Loc) (t : State), Q r Kd F Ar → cP D A G ad s.heap Kd U T zz F Ar H locs → cAg G U zz ad0 Kd0 ad Kd → t.heap = H → QC args s (.returned (some (.int r))) t) {F : tF} {Ar : tA} (y1_1 : Int32) (y2_1 : Int32) (y3_1 : Int32) (y4_1 : Int32) {cells slots : Nat} (hag : cAg G U zz ad0 Kd0 ad Kd) (hC : (cells + 2 * 8 ≤ 16 ∧ slots + 19 * 8 ≤ 152)) {H : Heap} {locs : List Loc} {ls : Array Slot} (P : cP D A G ad s.heap Kd U T zz F Ar H locs) (hl : lv_has ls 16 [(0, .ref (ad 0)), (1, .int y1_1), (2, .int y2_1), (3, .int y3_1), (4, .int y4_1)]) (hw : wc_finest_J0 Kd T F Ar y1_1 y2_1 y3_1 y4_1 Q) : W p l e ({ frames := 206, cells := 16, slots := 152, locals := 4749 }) s m args below meth c H locs cells slots (MQ below QC args s 16 152 A) (F0 m 0 ls []) := by
  obtain ⟨hx, hb, hml, hown, hts, -, hlk, -⟩ := id X
  have S : CallFix p m c _ _ s args lw_all RX0 := ⟨hx, hb, hml, hown, hts⟩
  refine lv_aload_n hx hb dX0_finest_0 rfl (lv_at hl 0 rfl) ?_
  refine lv_iload_n hx hb dX0_finest_1 rfl (lv_at hl 1 rfl) ?_
  refine cwc_isWay X P hA hw ⟨Nat.le_of_ble_eq_true rfl, Nat.le_of_ble_eq_true rfl⟩ ⟨Nat.le_trans (Nat.le_add_right _ _) hC.1, Nat.le_trans (Nat.le_add_right _ _) hC.2⟩ hl.1 (Nat.le_of_ble_eq_true rfl) dX0_finest_2 (fun r_2 hw => ?_)
  refine lv_if_eq (tgt := 22) hx hb dX0_finest_5 (by decide) (fun c_3 => ?_) (fun c_3 => ?_)
  · replace hw := hw.1 c_3
    refine lv_bipush (v := (-5)) hx hb dX0_finest_22 (by decide) ?_
    refine W.widen (k := 16) (n := 152) (Nat.le_trans (Nat.le_add_right _ _) hC.1) (Nat.le_trans (Nat.le_add_right _ _) hC.2) ?_
    exact W.iret hx hb hr (fun t ht hW => hret _ _ _ _ _ _ _ t hw P hag ht) P.2.2.1.2.2 dX0_finest_24 hlk
  · replace hw := hw.2 c_3
    refine lv_iload_n hx hb dX0_finest_8 rfl (lv_at hl 2 rfl) ?_
    refine cwc_isGate S hw ⟨Nat.le_of_ble_eq_true rfl, Nat.le_of_ble_eq_true rfl⟩ ⟨Nat.le_trans (Nat.le_add_right _ _) hC.1, Nat.le_trans (Nat.le_add_right _ _) hC.2⟩ hl.1 (Nat.le_of_ble_eq_true rfl) dX0_finest_9 (fun r_4 hw => ?_)
    refine lv_if_eq (tgt := 22) hx hb dX0_finest_12 (by decide) (fun c_5 => ?_) (fun c_5 => ?_)
    · replace hw := hw.1 c_5
      refine lv_bipush (v := (-5)) hx hb dX0_finest_22 (by decide) ?_
      refine W.widen (k := 16) (n := 152) (Nat.le_trans (Nat.le_add_right _ _) hC.1) (Nat.le_trans (Nat.le_add_right _ _) hC.2) ?_
      exact W.iret hx hb hr (fun t ht hW => hret _ _ _ _ _ _ _ t hw P hag ht) P.2.2.1.2.2 dX0_finest_24 hlk
    · replace hw := hw.2 c_5
      refine lv_iload_n hx hb dX0_finest_15 rfl (lv_at hl 3 rfl) ?_
      refine cwc_isMinute S hw ⟨Nat.le_of_ble_eq_true rfl, Nat.le_of_ble_eq_true rfl⟩ ⟨Nat.le_trans (Nat.le_add_right _ _) hC.1, Nat.le_trans (Nat.le_add_right _ _) hC.2⟩ hl.1 (Nat.le_of_ble_eq_true rfl) dX0_finest_16 (fun r_6 hw => ?_)
      refine lv_if_ne (tgt := 25) hx hb dX0_finest_19 (by decide) (fun c_7 => ?_) (fun c_7 => ?_)
      · replace hw := hw.1 c_7
        refine lv_iload hx hb dX0_finest_25 (lv_at hl 4 rfl) ?_
        refine lv_i2l hx hb dX0_finest_27 rfl ?_
        refine lv_lconst (v := 0) hx hb dX0_finest_28 (by decide) ?_
        refine lv_lconst (v := 1) hx hb dX0_finest_29 (by decide) ?_
        refine cwc_in S hw ⟨Nat.le_of_ble_eq_true rfl, Nat.le_of_ble_eq_true rfl⟩ ⟨Nat.le_trans (Nat.le_add_right _ _) hC.1, Nat.le_trans (Nat.le_add_right _ _) hC.2⟩ hl.1 (Nat.le_of_ble_eq_true rfl) dX0_finest_30 (fun r_8 hw => ?_)
        refine lv_if_ne (tgt := 39) hx hb dX0_finest_33 (by decide) (fun c_9 => ?_) (fun c_9 => ?_)
        · replace hw := hw.1 c_9
          refine lv_aload_n hx hb dX0_finest_39 rfl (lv_at hl 0 rfl) ?_
          refine cg_toll X P dX0_finest_40 ?_
          refine lv_bipush (v := 24) hx hb dX0_finest_43 (by decide) ?_
          refine lv_iload_n hx hb dX0_finest_45 rfl (lv_at hl 2 rfl) ?_
          refine lv_imul hx hb dX0_finest_46 ?_
          refine lv_iload_n hx hb dX0_finest_47 rfl (lv_at hl 3 rfl) ?_
          refine lv_iadd hx hb dX0_finest_48 ?_
          refine c_iald X P (rfl : cArr Kd 2 = some (0, 48)) hw.1 dX0_finest_49 ?_
          replace hw := hw.2
          refine lv_topi (fun x5_10 ex5_10 => ?_)
          replace hw := hw x5_10 ex5_10
          refine lv_istore (lv' := [(5, .int x5_10), (0, .ref (ad 0)), (1, .int y1_1), (2, .int y2_1), (3, .int y3_1), (4, .int y4_1)]) hx hb dX0_finest_50 hl (by decide) rfl (fun ls hl => ?_)
          refine lv_iconst (v := (-1)) hx hb dX0_finest_52 (by decide) ?_
          refine lv_istore (lv' := [(6, .int (-1)), (5, .int x5_10), (0, .ref (ad 0)), (1, .int y1_1), (2, .int y2_1), (3, .int y3_1), (4, .int y4_1)]) hx hb dX0_finest_53 hl (by decide) rfl (fun ls hl => ?_)
          refine lv_lconst (v := 0) hx hb dX0_finest_55 (by decide) ?_
          refine lv_lstore (lv' := [(7, .long 0), (6, .int (-1)), (5, .int x5_10), (0, .ref (ad 0)), (1, .int y1_1), (2, .int y2_1), (3, .int y3_1), (4, .int y4_1)]) hx hb dX0_finest_56 hl (by decide) rfl (fun ls hl => ?_)
          refine lv_iconst (v := 0) hx hb dX0_finest_58 (by decide) ?_
          refine lv_istore (lv' := [(9, .int 0), (7, .long 0), (6, .int (-1)), (5, .int x5_10), (0, .ref (ad 0)), (1, .int y1_1), (2, .int y2_1), (3, .int y3_1), (4, .int y4_1)]) hx hb dX0_finest_59 hl (by decide) rfl (fun ls hl => ?_)
          obtain ⟨n_45, hn_, hw⟩ := hw
          refine kwc_finest_L61 _ X hr hA hret _ _ _ _ _ _   ?_ n_45 _ _ _ _ _ _ _ _ _ _ _ _ hag ⟨by omega, by omega⟩ P (lv_sub hl [4, 5, 6, 7, 8, 3, 2, 1, 0] rfl) hw
          · intro Kd_39 F_40 Ar_41 x6_42 ad cells slots H locs ls hag hC P hl hw
            exact kwc_finest_J220 X hr hA hret _ _ _ _ hag hC P (lv_sub hl [0, 1, 2, 3, 4] rfl) hw
        · replace hw := hw.2 c_9
          refine lv_bipush (v := (-7)) hx hb dX0_finest_36 (by decide) ?_
          refine W.widen (k := 16) (n := 152) (Nat.le_trans (Nat.le_add_right _ _) hC.1) (Nat.le_trans (Nat.le_add_right _ _) hC.2) ?_
          exact W.iret hx hb hr (fun t ht hW => hret _ _ _ _ _ _ _ t hw P hag ht) P.2.2.1.2.2 dX0_finest_38 hlk
      · replace hw := hw.2 c_7
        refine lv_bipush (v := (-5)) hx hb dX0_finest_22 (by decide) ?_
        refine W.widen (k := 16) (n := 152) (Nat.le_trans (Nat.le_add_right _ _) hC.1) (Nat.le_trans (Nat.le_add_right _ _) hC.2) ?_
        exact W.iret hx hb hr (fun t ht hW => hret _ _ _ _ _ _ _ t hw P hag ht) P.2.2.1.2.2 dX0_finest_24 hlk
def wc_finest (Kd : tK) (T : tT) (F : tF) (Ar : tA) (a1 : Int32) (a2 : Int32) (a3 : Int32) (a4 : Int32) (Q : Int32 → tK → tF → tA → Prop) : Prop :=
  (wc_finest_J0 Kd T F Ar a1 a2 a3 a4 Q)
set_option maxHeartbeats 4000000 in
theorem twc_finest (l : Launch) (D : va_G) (G ad : Nat → Nat) (Kd : tK) (U : tU) (T : tT) (zz : Int32) (F : tF) (Ar : tA) (a1 : Int32) (a2 : Int32) (a3 : Int32) (a4 : Int32) (sz : Nat) (Q : Int32 → tK → tF → tA → Prop) (hw : wc_finest Kd T F Ar a1 a2 a3 a4 Q) : Met l yX0_finest (wsW_ yX0_finest cX0_finest 16 (some .int) [(58, 220, 236, 0), (236, 238, 236, 0)]) ({ frames := 206, cells := 16, slots := 152, locals := 4749 }) (va_Pc [.ref (ad 0), .int a1, .int a2, .int a3, .int a4] (cPb D G ad Kd U T zz F Ar sz)) (va_Qi (fun r (u : tM) => Q r u.2.1 u.2.2.1 u.2.2.2) (cBM D G ad Kd U T zz sz) (cReg G ad Kd U zz sz)) 16 152 (cReg G ad Kd U zz sz) := by
  refine c_entryW (by decide) (Nat.le_of_ble_eq_true rfl) ?_
  intro p e s m args below meth c ls X hr hsz P hl
  subst hsz
  have X : cCx p s m args meth c cX0_finest 16 RX0 D G := X
  have hl : lv_has ls 16 [(0, .ref (ad 0)), (1, .int a1), (2, .int a2), (3, .int a3), (4, .int a4)] := hl
  have hA : ∀ q, s.heap.size ≤ q → cReg G ad Kd U zz s.heap.size q := fun q h => Or.inr h
  have hag : cAg G U zz ad Kd ad Kd := ⟨fun k hk => ⟨rfl, hk⟩, fun _ => rfl⟩
  have hC : 0 + 2 * 8 ≤ 16 ∧ 0 + 19 * 8 ≤ 152 := ⟨Nat.le_of_ble_eq_true rfl, Nat.le_of_ble_eq_true rfl⟩
  have hret : ∀ (r : Int32) (ad1 : Nat → Nat) (Kd1 : tK) (F : tF) (Ar : tA) (H : Heap) (locs : List Loc) (t : State), Q r Kd1 F Ar → cP D (cReg G ad Kd U zz s.heap.size) G ad1 s.heap Kd1 U T zz F Ar H locs → cAg G U zz ad Kd ad1 Kd1 → t.heap = H → (va_Qi (fun r (u : tM) => Q r u.2.1 u.2.2.1 u.2.2.2) (cBM D G ad Kd U T zz s.heap.size) (cReg G ad Kd U zz s.heap.size)) args s (.returned (some (.int r))) t := fun r ad1 Kd1 F Ar H locs t hq P hag ht => ⟨⟨r, (ad1, Kd1, F, Ar), rfl, hq, by show gw_P _ _ _ _ t.heap; rw [ht]; exact P.1, P.2.1, P.2.2.2, fun k hk => (hag.1 k hk).1, hag.2⟩, P.2.2.1.F ht⟩
  exact kwc_finest_J0 X hr hA hret _ _ _ _ hag hC P (lv_sub hl [0, 1, 2, 3, 4] rfl) hw
end CT
