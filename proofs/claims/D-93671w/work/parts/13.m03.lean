/-! by gen/model.py: methods of the model, 3 -/
set_option maxRecDepth 100000
section MM3
variable {p : Program} {l : Launch} {e : Env} {R : Room} {s : State} {m : MethodId} {args : Array Value} {below : List Frame} {meth : Method} {c : Code}
variable {cc : ByteArray} {nL pc : Nat} {ls : Array Slot} {rest : List Value} {D : va_G} {cl : List vw_C} {ci : Nat} {dA dL : ClassId} {ad : Nat → Nat}
-- costBy
def wm_costBy (F : tF) (Ar : tA) (a1 : Int32) (a2 : Int32) (a3 : Int32) (Q : Int32 → tF → tA → Prop) : Prop :=
  vp_in a2 16 ∧ ∀ x4_1 : Int32, x4_1 = (Ar 40 a2.toNatClampNeg) → vp_in a2 16 ∧ ∀ Ar_2 : tA, Ar_2 = aset Ar 40 a2.toNatClampNeg a3 → wm_goes F Ar_2 a1 (fun F_4 Ar_5 => wm_cost F_4 Ar_5 a1 a2 (fun r_6 F_7 Ar_8 => vp_in a2 16 ∧ ∀ Ar_9 : tA, Ar_9 = aset Ar_8 40 a2.toNatClampNeg x4_1 → Q r_6 F_7 Ar_9))
set_option maxHeartbeats 4000000 in
theorem twm_costBy (l : Launch) (D : va_G) (cl : List vw_C) (ci : Nat) (dA dL : ClassId) (ad : Nat → Nat) (F : tF) (Ar : tA) (a1 : Int32) (a2 : Int32) (a3 : Int32) (Q : Int32 → tF → tA → Prop) (hw : wm_costBy F Ar a1 a2 a3 Q) : Met l yX7_costBy (ws_ yX7_costBy cX7_costBy 6 (some .int)) ({ frames := 3, cells := 0, slots := 0, locals := 73 }) (mPc D cl ci dA dL ad F Ar [.int a1, .int a2, .int a3]) (mQi D cl ci dA dL ad Q) 0 0 (mReg ad) := by
  refine m_entry (by decide) rfl (Nat.le_of_ble_eq_true rfl) ?_
  intro p e s m below meth c ls X hr P hl
  obtain ⟨hx, hb, hml, hown, hts, -, -, hlk⟩ := id X
  have S : CallFix p m c _ _ s _ lw_all RX7 := ⟨hx, hb, hml, hown, hts⟩
  have hl : lv_has ls 6 [(0, .ref (ad 0)), (1, .int a1), (2, .int a2), (3, .int a3)] := hl
  refine lv_aload_n hx hb dX7_costBy_0 rfl (lv_at hl 0 rfl) ?_
  refine mg_now X P dX7_costBy_1 ?_
  refine lv_iload_n hx hb dX7_costBy_4 rfl (lv_at hl 2 rfl) ?_
  refine m_iald X P 40 rfl (by decide) hw.1 dX7_costBy_5 ?_
  replace hw := hw.2
  refine lv_topi (fun x4_1 ex4_1 => ?_)
  replace hw := hw x4_1 ex4_1
  refine lv_istore (lv' := [(4, .int x4_1), (0, .ref (ad 0)), (1, .int a1), (2, .int a2), (3, .int a3)]) hx hb dX7_costBy_6 hl (by decide) rfl (fun ls hl => ?_)
  refine lv_aload_n hx hb dX7_costBy_8 rfl (lv_at hl 1 rfl) ?_
  refine mg_now X P dX7_costBy_9 ?_
  refine lv_iload_n hx hb dX7_costBy_12 rfl (lv_at hl 3 rfl) ?_
  refine lv_iload_n hx hb dX7_costBy_13 rfl (lv_at hl 4 rfl) ?_
  refine m_iast X P 40 rfl (by decide) hw.1 dX7_costBy_14 (fun Ar_2 H locs eAr_2 P => ?_)
  replace hw := hw.2
  replace hw := hw Ar_2 eAr_2
  refine lv_aload_n hx hb dX7_costBy_15 rfl (lv_at hl 1 rfl) ?_
  refine lv_iload_n hx hb dX7_costBy_16 rfl (lv_at hl 2 rfl) ?_
  refine cwm_goes X P hw ⟨Nat.le_of_ble_eq_true rfl, Nat.le_of_ble_eq_true rfl⟩ hl.1 (Nat.le_of_ble_eq_true rfl) dX7_costBy_17 (fun F_4 Ar_5 H locs hw P => ?_)
  refine lv_aload_n hx hb dX7_costBy_20 rfl (lv_at hl 1 rfl) ?_
  refine lv_iload_n hx hb dX7_costBy_21 rfl (lv_at hl 2 rfl) ?_
  refine lv_iload_n hx hb dX7_costBy_22 rfl (lv_at hl 3 rfl) ?_
  refine cwm_cost X P hw ⟨Nat.le_of_ble_eq_true rfl, Nat.le_of_ble_eq_true rfl⟩ hl.1 (Nat.le_of_ble_eq_true rfl) dX7_costBy_23 (fun r_6 F_7 Ar_8 H locs hw P => ?_)
  refine lv_istore (lv' := [(5, .int r_6), (4, .int x4_1), (0, .ref (ad 0)), (1, .int a1), (2, .int a2), (3, .int a3)]) hx hb dX7_costBy_26 hl (by decide) rfl (fun ls hl => ?_)
  refine lv_aload_n hx hb dX7_costBy_28 rfl (lv_at hl 2 rfl) ?_
  refine mg_now X P dX7_costBy_29 ?_
  refine lv_iload_n hx hb dX7_costBy_32 rfl (lv_at hl 4 rfl) ?_
  refine lv_iload hx hb dX7_costBy_33 (lv_at hl 1 rfl) ?_
  refine m_iast X P 40 rfl (by decide) hw.1 dX7_costBy_35 (fun Ar_9 H locs eAr_9 P => ?_)
  replace hw := hw.2
  replace hw := hw Ar_9 eAr_9
  refine lv_iload hx hb dX7_costBy_36 (lv_at hl 0 rfl) ?_
  exact m_iret X P hr hw dX7_costBy_38
theorem cwm_costBy {Q : Int32 → tF → tA → Prop} {a1 : Int32} {a2 : Int32} {a3 : Int32} {Z : State → Prop} {H : Heap} {locs : List Loc} {F : tF} {Ar : tA} (X : mCx p s m args meth c cc nL D cl ci dA dL) (P : mP D cl (mReg ad) ci dA dL ad s.heap F Ar H locs) (hw : wm_costBy F Ar a1 a2 a3 Q) (hR : 3 + 1 ≤ R.frames ∧ 8 + (6 + 11) + 73 ≤ R.locals) (hls : ls.size = nL) (hst : (rest.map fun v => v.category).sum ≤ 8) (hdg : decode cc pc = .ok (.invokevirtual 272, 3)) (kk : ∀ (r : Int32) (F1 : tF) (A1 : tA) (H1 : Heap) (locs1 : List Loc), Q r F1 A1 → mP D cl (mReg ad) ci dA dL ad s.heap F1 A1 H1 locs1 → W p l e R s m args below meth c H1 locs1 0 0 Z (F0 m (pc + 3) ls (.int r :: rest))) : W p l e R s m args below meth c H locs 0 0 Z (F0 m pc ls (.int a3 :: .int a2 :: .int a1 :: .ref (ad 0) :: rest)) := by
  obtain ⟨hx, hb, hml, hown, hts, hK, hc, hlk⟩ := X
  exact va_calli (m_runV (as := [.int a1, .int a2, .int a3]) hx hb hml hown hts hK hc P.1 P.2.1 (twm_costBy l D cl ci dA dL ad F Ar a1 a2 a3 Q hw) (cwV 3 hts (lw_V q1673 q1675 qs59 q88 q1676) rfl rfl rfl (by decide +kernel) hR) rfl hls hst hdg ⟨Nat.zero_le _, Nat.zero_le _⟩) P.2.2 (fun q _ h => h) (fun q h => h) (fun r u t H1 locs1 ht hvm hp hB _ _ hS => kk r u.1 u.2 H1 locs1 hp ⟨by rw [← ht]; exact hB, P.2.1.to (fun k h => mM_dom.mpr (mM_dom.mp h)), hS⟩)
-- looks
def wm_looks_J78 (F : tF) (Ar : tA) (y1_14 : Int32) (y2_14 : Int32) (y3_14 : Int32) (y4_14 : Int32) (y5_14 : Int32) (Kh44_8 : tF → tA → Int32 → Int32 → Prop) (Q : tF → tA → Prop) : Prop :=
  (Kh44_8 F Ar y4_14 (y5_14 + 1))
set_option maxHeartbeats 4000000 in
theorem kwm_looks_J78 {Q : tF → tA → Prop} (X : mCx p s m args meth c cX7_looks 7 D cl ci dA dL) (hr : meth.sig.returnType = none) {F : tF} {Ar : tA} (y1_14 : Int32) (y2_14 : Int32) (y3_14 : Int32) (y4_14 : Int32) (y5_14 : Int32) (Kh44_8 : tF → tA → Int32 → Int32 → Prop) {H : Heap} {locs : List Loc} {ls : Array Slot} (P : mP D cl (mReg ad) ci dA dL ad s.heap F Ar H locs) (hl : lv_has ls 7 [(0, .ref (ad 0)), (1, .int y1_14), (2, .int y2_14), (3, .int y3_14), (4, .int y4_14), (5, .int y5_14)]) (hw : wm_looks_J78 F Ar y1_14 y2_14 y3_14 y4_14 y5_14 Kh44_8 Q) (hKh44_8 : ∀ (F_ : tF) (Ar_ : tA) (w4_ : Int32) (w5_ : Int32) (H : Heap) (locs : List Loc) (ls : Array Slot), mP D cl (mReg ad) ci dA dL ad s.heap F_ Ar_ H locs → lv_has ls 7 [(0, .ref (ad 0)), (1, .int y1_14), (2, .int y2_14), (3, .int y3_14), (4, .int w4_), (5, .int w5_)] → Kh44_8 F_ Ar_ w4_ w5_ → W p l e ({ frames := 4, cells := 0, slots := 0, locals := 98 }) s m args below meth c H locs 0 0 (MQ below (mQv D cl ci dA dL ad Q) args s 0 0 (mReg ad)) (F0 m 44 ls [])) : W p l e ({ frames := 4, cells := 0, slots := 0, locals := 98 }) s m args below meth c H locs 0 0 (MQ below (mQv D cl ci dA dL ad Q) args s 0 0 (mReg ad)) (F0 m 78 ls []) := by
  obtain ⟨hx, hb, hml, hown, hts, -, -, hlk⟩ := id X
  have S : CallFix p m c _ _ s args lw_all RX7 := ⟨hx, hb, hml, hown, hts⟩
  refine lv_iinc (v := (y5_14 + 1)) (lv' := [(5, .int (y5_14 + 1)), (0, .ref (ad 0)), (1, .int y1_14), (2, .int y2_14), (3, .int y3_14), (4, .int y4_14)]) hx hb dX7_looks_78 hl (k := 5) rfl rfl (by decide) rfl (fun ls hl => ?_)
  refine lv_goto (tgt := 44) hx hb dX7_looks_81 (by decide) ?_
  exact hKh44_8 _ _ _ _ _ _ _ P (lv_sub hl [1, 2, 3, 4, 5, 0] rfl) hw
def wm_looks_L44 (y1_8 : Int32) (y2_8 : Int32) (y3_8 : Int32) (Kx84_8 : tF → tA → Int32 → Prop) (Q : tF → tA → Prop) : Nat → tF → tA → Int32 → Int32 → Prop
  | 0, _, _, _, _ => False
  | f44 + 1, F, Ar, y4_8, y5_8 =>
    (((48 : Int32) < y5_8 → (Kx84_8 F Ar y4_8)) ∧ (¬ (48 : Int32) < y5_8 → wm_costBy F Ar y1_8 y2_8 y5_8 (fun r_10 F_11 Ar_12 => ((y4_8 ≤ r_10 → (wm_looks_J78 F_11 Ar_12 y1_8 y2_8 y3_8 y4_8 y5_8 (wm_looks_L44 y1_8 y2_8 y3_8 Kx84_8 Q f44) Q)) ∧ (¬ y4_8 ≤ r_10 → ∀ F_15 : tF, F_15 = upd F_11 46 y5_8 → (wm_looks_J78 F_15 Ar_12 y1_8 y2_8 y3_8 r_10 y5_8 (wm_looks_L44 y1_8 y2_8 y3_8 Kx84_8 Q f44) Q))))))
set_option maxHeartbeats 4000000 in
theorem kwm_looks_L44 {Q : tF → tA → Prop} (X : mCx p s m args meth c cX7_looks 7 D cl ci dA dL) (hr : meth.sig.returnType = none) (y1_8 : Int32) (y2_8 : Int32) (y3_8 : Int32) (Kx84_8 : tF → tA → Int32 → Prop) (hKx84_8 : ∀ (F_ : tF) (Ar_ : tA) (w4_ : Int32) (H : Heap) (locs : List Loc) (ls : Array Slot), mP D cl (mReg ad) ci dA dL ad s.heap F_ Ar_ H locs → lv_has ls 7 [(0, .ref (ad 0)), (1, .int y1_8), (2, .int y2_8), (3, .int y3_8), (4, .int w4_)] → Kx84_8 F_ Ar_ w4_ → W p l e ({ frames := 4, cells := 0, slots := 0, locals := 98 }) s m args below meth c H locs 0 0 (MQ below (mQv D cl ci dA dL ad Q) args s 0 0 (mReg ad)) (F0 m 84 ls [])) : ∀ (n : Nat) (F : tF) (Ar : tA) (y4_8 : Int32) (y5_8 : Int32) (H : Heap) (locs : List Loc) (ls : Array Slot), mP D cl (mReg ad) ci dA dL ad s.heap F Ar H locs → lv_has ls 7 [(0, .ref (ad 0)), (1, .int y1_8), (2, .int y2_8), (3, .int y3_8), (4, .int y4_8), (5, .int y5_8)] → wm_looks_L44 y1_8 y2_8 y3_8 Kx84_8 Q n F Ar y4_8 y5_8 → W p l e ({ frames := 4, cells := 0, slots := 0, locals := 98 }) s m args below meth c H locs 0 0 (MQ below (mQv D cl ci dA dL ad Q) args s 0 0 (mReg ad)) (F0 m 44 ls []) := by
  obtain ⟨hx, hb, hml, hown, hts, -, -, hlk⟩ := id X
  have S : CallFix p m c _ _ s args lw_all RX7 := ⟨hx, hb, hml, hown, hts⟩
  intro n
  induction n with
  | zero =>
    intro F Ar y4_8 y5_8 H locs ls P hl hw
    exact hw.elim
  | succ n ih =>
    intro F Ar y4_8 y5_8 H locs ls P hl hw
    have hKh44_8 := ih
    refine lv_iload hx hb dX7_looks_44 (lv_at hl 5 rfl) ?_
    refine lv_bipush (v := 48) hx hb dX7_looks_46 (by decide) ?_
    refine lv_icmp_gt (tgt := 84) hx hb dX7_looks_48 (by decide) (fun c_9 => ?_) (fun c_9 => ?_)
    · replace hw := hw.1 c_9
      exact hKx84_8 _ _ _ _ _ _ P (lv_sub hl [0, 1, 2, 3, 4] rfl) hw
    · replace hw := hw.2 c_9
      refine lv_aload_n hx hb dX7_looks_51 rfl (lv_at hl 0 rfl) ?_
      refine lv_iload_n hx hb dX7_looks_52 rfl (lv_at hl 1 rfl) ?_
      refine lv_iload_n hx hb dX7_looks_53 rfl (lv_at hl 2 rfl) ?_
      refine lv_iload hx hb dX7_looks_54 (lv_at hl 5 rfl) ?_
      refine cwm_costBy X P hw ⟨Nat.le_of_ble_eq_true rfl, Nat.le_of_ble_eq_true rfl⟩ hl.1 (Nat.le_of_ble_eq_true rfl) dX7_looks_56 (fun r_10 F_11 Ar_12 H locs hw P => ?_)
      refine lv_istore (lv' := [(6, .int r_10), (0, .ref (ad 0)), (1, .int y1_8), (2, .int y2_8), (3, .int y3_8), (4, .int y4_8), (5, .int y5_8)]) hx hb dX7_looks_59 hl (by decide) rfl (fun ls hl => ?_)
      refine lv_iload hx hb dX7_looks_61 (lv_at hl 0 rfl) ?_
      refine lv_iload hx hb dX7_looks_63 (lv_at hl 5 rfl) ?_
      refine lv_icmp_ge (tgt := 78) hx hb dX7_looks_65 (by decide) (fun c_13 => ?_) (fun c_13 => ?_)
      · replace hw := hw.1 c_13
        exact kwm_looks_J78 X hr _ _ _ _ _ _ P (lv_sub hl [1, 2, 3, 4, 5, 6] rfl) hw hKh44_8
      · replace hw := hw.2 c_13
        refine lv_iload hx hb dX7_looks_68 (lv_at hl 0 rfl) ?_
        refine lv_istore (lv' := [(4, .int r_10), (6, .int r_10), (0, .ref (ad 0)), (1, .int y1_8), (2, .int y2_8), (3, .int y3_8), (5, .int y5_8)]) hx hb dX7_looks_70 hl (by decide) rfl (fun ls hl => ?_)
        refine lv_aload_n hx hb dX7_looks_72 rfl (lv_at hl 2 rfl) ?_
        refine lv_iload hx hb dX7_looks_73 (lv_at hl 6 rfl) ?_
        refine mp_better X P dX7_looks_75 (fun F_15 H locs eF_15 P => ?_)
        replace hw := hw F_15 eF_15
        exact kwm_looks_J78 X hr _ _ _ _ _ _ P (lv_sub hl [2, 3, 4, 5, 0, 6] rfl) hw hKh44_8
def wm_looks_J103 (F : tF) (Ar : tA) (y1_20 : Int32) (y2_20 : Int32) (Kh7_2 : tF → tA → Int32 → Prop) (Q : tF → tA → Prop) : Prop :=
  (Kh7_2 F Ar (y2_20 + 1))
set_option maxHeartbeats 4000000 in
theorem kwm_looks_J103 {Q : tF → tA → Prop} (X : mCx p s m args meth c cX7_looks 7 D cl ci dA dL) (hr : meth.sig.returnType = none) {F : tF} {Ar : tA} (y1_20 : Int32) (y2_20 : Int32) (Kh7_2 : tF → tA → Int32 → Prop) {H : Heap} {locs : List Loc} {ls : Array Slot} (P : mP D cl (mReg ad) ci dA dL ad s.heap F Ar H locs) (hl : lv_has ls 7 [(0, .ref (ad 0)), (1, .int y1_20), (2, .int y2_20)]) (hw : wm_looks_J103 F Ar y1_20 y2_20 Kh7_2 Q) (hKh7_2 : ∀ (F_ : tF) (Ar_ : tA) (w2_ : Int32) (H : Heap) (locs : List Loc) (ls : Array Slot), mP D cl (mReg ad) ci dA dL ad s.heap F_ Ar_ H locs → lv_has ls 7 [(0, .ref (ad 0)), (1, .int y1_20), (2, .int w2_)] → Kh7_2 F_ Ar_ w2_ → W p l e ({ frames := 4, cells := 0, slots := 0, locals := 98 }) s m args below meth c H locs 0 0 (MQ below (mQv D cl ci dA dL ad Q) args s 0 0 (mReg ad)) (F0 m 7 ls [])) : W p l e ({ frames := 4, cells := 0, slots := 0, locals := 98 }) s m args below meth c H locs 0 0 (MQ below (mQv D cl ci dA dL ad Q) args s 0 0 (mReg ad)) (F0 m 103 ls []) := by
  obtain ⟨hx, hb, hml, hown, hts, -, -, hlk⟩ := id X
  have S : CallFix p m c _ _ s args lw_all RX7 := ⟨hx, hb, hml, hown, hts⟩
  refine lv_iinc (v := (y2_20 + 1)) (lv' := [(2, .int (y2_20 + 1)), (0, .ref (ad 0)), (1, .int y1_20)]) hx hb dX7_looks_103 hl (k := 2) rfl rfl (by decide) rfl (fun ls hl => ?_)
  refine lv_goto (tgt := 7) hx hb dX7_looks_106 (by decide) ?_
  exact hKh7_2 _ _ _ _ _ _ P (lv_sub hl [1, 2, 0] rfl) hw
def wm_looks_L7 (y1_2 : Int32) (Q : tF → tA → Prop) : Nat → tF → tA → Int32 → Prop
  | 0, _, _, _ => False
  | f7 + 1, F, Ar, y2_2 =>
    vp_in y1_2 8 ∧ (((Ar 10 y1_2.toNatClampNeg) ≤ y2_2 → Q F Ar) ∧ (¬ (Ar 10 y1_2.toNatClampNeg) ≤ y2_2 → ((¬ (F 45) = (-1) → Q F Ar) ∧ ((F 45) = (-1) → vp_in y2_2 16 ∧ wm_costBy F Ar y1_2 y2_2 (Ar 40 y2_2.toNatClampNeg) (fun r_5 F_6 Ar_7 => (∃ n44, wm_looks_L44 y1_2 y2_2 r_5 (fun (F_16 : tF) (Ar_17 : tA) (x4_18 : Int32) => ((r_5 ≤ x4_18 → (wm_looks_J103 F_16 Ar_17 y1_2 y2_2 (wm_looks_L7 y1_2 Q f7) Q)) ∧ (¬ r_5 ≤ x4_18 → ∀ F_21 : tF, F_21 = upd F_16 45 y2_2 → ∀ F_22 : tF, F_22 = upd F_21 47 (r_5 - x4_18) → (wm_looks_J103 F_22 Ar_17 y1_2 y2_2 (wm_looks_L7 y1_2 Q f7) Q)))) Q n44 F_6 Ar_7 r_5 0))))))
set_option maxHeartbeats 4000000 in
theorem kwm_looks_L7 {Q : tF → tA → Prop} (X : mCx p s m args meth c cX7_looks 7 D cl ci dA dL) (hr : meth.sig.returnType = none) (y1_2 : Int32) : ∀ (n : Nat) (F : tF) (Ar : tA) (y2_2 : Int32) (H : Heap) (locs : List Loc) (ls : Array Slot), mP D cl (mReg ad) ci dA dL ad s.heap F Ar H locs → lv_has ls 7 [(0, .ref (ad 0)), (1, .int y1_2), (2, .int y2_2)] → wm_looks_L7 y1_2 Q n F Ar y2_2 → W p l e ({ frames := 4, cells := 0, slots := 0, locals := 98 }) s m args below meth c H locs 0 0 (MQ below (mQv D cl ci dA dL ad Q) args s 0 0 (mReg ad)) (F0 m 7 ls []) := by
  obtain ⟨hx, hb, hml, hown, hts, -, -, hlk⟩ := id X
  have S : CallFix p m c _ _ s args lw_all RX7 := ⟨hx, hb, hml, hown, hts⟩
  intro n
  induction n with
  | zero =>
    intro F Ar y2_2 H locs ls P hl hw
    exact hw.elim
  | succ n ih =>
    intro F Ar y2_2 H locs ls P hl hw
    have hKh7_2 := ih
    refine lv_iload_n hx hb dX7_looks_7 rfl (lv_at hl 2 rfl) ?_
    refine lv_aload_n hx hb dX7_looks_8 rfl (lv_at hl 0 rfl) ?_
    refine mg_many X P dX7_looks_9 ?_
    refine lv_iload_n hx hb dX7_looks_12 rfl (lv_at hl 1 rfl) ?_
    refine m_iald X P 10 rfl (by decide) hw.1 dX7_looks_13 ?_
    replace hw := hw.2
    refine lv_icmp_ge (tgt := 109) hx hb dX7_looks_14 (by decide) (fun c_3 => ?_) (fun c_3 => ?_)
    · replace hw := hw.1 c_3
      exact m_vret X P hr hw dX7_looks_109
    · replace hw := hw.2 c_3
      refine lv_aload_n hx hb dX7_looks_17 rfl (lv_at hl 0 rfl) ?_
      refine mg_restless X P dX7_looks_18 ?_
      refine lv_iconst (v := (-1)) hx hb dX7_looks_21 (by decide) ?_
      refine lv_icmp_ne (tgt := 109) hx hb dX7_looks_22 (by decide) (fun c_4 => ?_) (fun c_4 => ?_)
      · replace hw := hw.1 c_4
        exact m_vret X P hr hw dX7_looks_109
      · replace hw := hw.2 c_4
        refine lv_aload_n hx hb dX7_looks_25 rfl (lv_at hl 0 rfl) ?_
        refine lv_iload_n hx hb dX7_looks_26 rfl (lv_at hl 1 rfl) ?_
        refine lv_iload_n hx hb dX7_looks_27 rfl (lv_at hl 2 rfl) ?_
        refine lv_aload_n hx hb dX7_looks_28 rfl (lv_at hl 0 rfl) ?_
        refine mg_now X P dX7_looks_29 ?_
        refine lv_iload_n hx hb dX7_looks_32 rfl (lv_at hl 2 rfl) ?_
        refine m_iald X P 40 rfl (by decide) hw.1 dX7_looks_33 ?_
        replace hw := hw.2
        refine cwm_costBy X P hw ⟨Nat.le_of_ble_eq_true rfl, Nat.le_of_ble_eq_true rfl⟩ hl.1 (Nat.le_of_ble_eq_true rfl) dX7_looks_34 (fun r_5 F_6 Ar_7 H locs hw P => ?_)
        refine lv_istore_n (lv' := [(3, .int r_5), (0, .ref (ad 0)), (1, .int y1_2), (2, .int y2_2)]) hx hb dX7_looks_37 rfl hl (by decide) rfl (fun ls hl => ?_)
        refine lv_iload_n hx hb dX7_looks_38 rfl (lv_at hl 0 rfl) ?_
        refine lv_istore (lv' := [(4, .int r_5), (3, .int r_5), (0, .ref (ad 0)), (1, .int y1_2), (2, .int y2_2)]) hx hb dX7_looks_39 hl (by decide) rfl (fun ls hl => ?_)
        refine lv_iconst (v := 0) hx hb dX7_looks_41 (by decide) ?_
        refine lv_istore (lv' := [(5, .int 0), (4, .int r_5), (3, .int r_5), (0, .ref (ad 0)), (1, .int y1_2), (2, .int y2_2)]) hx hb dX7_looks_42 hl (by decide) rfl (fun ls hl => ?_)
        obtain ⟨n_23, hw⟩ := hw
        refine kwm_looks_L44 X hr _ _ _ _   ?_ n_23 _ _ _ _ _ _ _ P (lv_sub hl [3, 4, 5, 2, 1, 0] rfl) hw
        · intro F_16 Ar_17 x4_18 H locs ls P hl hw
          refine lv_iload hx hb dX7_looks_84 (lv_at hl 4 rfl) ?_
          refine lv_iload_n hx hb dX7_looks_86 rfl (lv_at hl 3 rfl) ?_
          refine lv_icmp_ge (tgt := 103) hx hb dX7_looks_87 (by decide) (fun c_19 => ?_) (fun c_19 => ?_)
          · replace hw := hw.1 c_19
            exact kwm_looks_J103 X hr _ _ _ P (lv_sub hl [0, 1, 2] rfl) hw hKh7_2
          · replace hw := hw.2 c_19
            refine lv_aload_n hx hb dX7_looks_90 rfl (lv_at hl 0 rfl) ?_
            refine lv_iload_n hx hb dX7_looks_91 rfl (lv_at hl 2 rfl) ?_
            refine mp_restless X P dX7_looks_92 (fun F_21 H locs eF_21 P => ?_)
            replace hw := hw F_21 eF_21
            refine lv_aload_n hx hb dX7_looks_95 rfl (lv_at hl 0 rfl) ?_
            refine lv_iload_n hx hb dX7_looks_96 rfl (lv_at hl 3 rfl) ?_
            refine lv_iload hx hb dX7_looks_97 (lv_at hl 4 rfl) ?_
            refine lv_isub hx hb dX7_looks_99 ?_
            refine mp_less X P dX7_looks_100 (fun F_22 H locs eF_22 P => ?_)
            replace hw := hw F_22 eF_22
            exact kwm_looks_J103 X hr _ _ _ P (lv_sub hl [0, 1, 2] rfl) hw hKh7_2
def wm_looks (F : tF) (Ar : tA) (a1 : Int32) (Q : tF → tA → Prop) : Prop :=
  ∀ F_1 : tF, F_1 = upd F 45 (-1) → (∃ n7, wm_looks_L7 a1 Q n7 F_1 Ar 0)
set_option maxHeartbeats 4000000 in
theorem twm_looks (l : Launch) (D : va_G) (cl : List vw_C) (ci : Nat) (dA dL : ClassId) (ad : Nat → Nat) (F : tF) (Ar : tA) (a1 : Int32) (Q : tF → tA → Prop) (hw : wm_looks F Ar a1 Q) : Met l yX7_looks (ws_ yX7_looks cX7_looks 7 none) ({ frames := 4, cells := 0, slots := 0, locals := 98 }) (mPc D cl ci dA dL ad F Ar [.int a1]) (mQv D cl ci dA dL ad Q) 0 0 (mReg ad) := by
  refine m_entry (by decide) rfl (Nat.le_of_ble_eq_true rfl) ?_
  intro p e s m below meth c ls X hr P hl
  obtain ⟨hx, hb, hml, hown, hts, -, -, hlk⟩ := id X
  have S : CallFix p m c _ _ s _ lw_all RX7 := ⟨hx, hb, hml, hown, hts⟩
  have hl : lv_has ls 7 [(0, .ref (ad 0)), (1, .int a1)] := hl
  refine lv_aload_n hx hb dX7_looks_0 rfl (lv_at hl 0 rfl) ?_
  refine lv_iconst (v := (-1)) hx hb dX7_looks_1 (by decide) ?_
  refine mp_restless X P dX7_looks_2 (fun F_1 H locs eF_1 P => ?_)
  replace hw := hw F_1 eF_1
  refine lv_iconst (v := 0) hx hb dX7_looks_5 (by decide) ?_
  refine lv_istore_n (lv' := [(2, .int 0), (0, .ref (ad 0)), (1, .int a1)]) hx hb dX7_looks_6 rfl hl (by decide) rfl (fun ls hl => ?_)
  obtain ⟨n_24, hw⟩ := hw
  refine kwm_looks_L7 X hr _    n_24 _ _ _ _ _ _ P (lv_sub hl [1, 2, 0] rfl) hw
theorem cwm_looks {Q : tF → tA → Prop} {a1 : Int32} {Z : State → Prop} {H : Heap} {locs : List Loc} {F : tF} {Ar : tA} (X : mCx p s m args meth c cc nL D cl ci dA dL) (P : mP D cl (mReg ad) ci dA dL ad s.heap F Ar H locs) (hw : wm_looks F Ar a1 Q) (hR : 4 + 1 ≤ R.frames ∧ 8 + (7 + 11) + 98 ≤ R.locals) (hls : ls.size = nL) (hst : (rest.map fun v => v.category).sum ≤ 8) (hdg : decode cc pc = .ok (.invokevirtual 281, 3)) (kk : ∀ (F1 : tF) (A1 : tA) (H1 : Heap) (locs1 : List Loc), Q F1 A1 → mP D cl (mReg ad) ci dA dL ad s.heap F1 A1 H1 locs1 → W p l e R s m args below meth c H1 locs1 0 0 Z (F0 m (pc + 3) ls (rest))) : W p l e R s m args below meth c H locs 0 0 Z (F0 m pc ls (.int a1 :: .ref (ad 0) :: rest)) := by
  obtain ⟨hx, hb, hml, hown, hts, hK, hc, hlk⟩ := X
  exact va_callv (m_runV (as := [.int a1]) hx hb hml hown hts hK hc P.1 P.2.1 (twm_looks l D cl ci dA dL ad F Ar a1 Q hw) (cwV 1 hts (lw_V q1669 q1671 qs58 q88 q1672) rfl rfl rfl (by decide +kernel) hR) rfl hls hst hdg ⟨Nat.zero_le _, Nat.zero_le _⟩) P.2.2 (fun q _ h => h) (fun q h => h) (fun u t H1 locs1 ht hvm hp hB _ _ hS => kk u.1 u.2 H1 locs1 hp ⟨by rw [← ht]; exact hB, P.2.1.to (fun k h => mM_dom.mpr (mM_dom.mp h)), hS⟩)
-- judge
def wm_judge (F : tF) (Ar : tA) (a1 : Int32) (a2 : Int32) (Q : Int32 → tF → tA → Prop) : Prop :=
  wm_isWay F Ar a1 (fun r_1 => ((¬ r_1 = 0 → wm_in a2 0 2 (fun r_3 => ((¬ r_3 = 0 → wm_lays F Ar a1 (fun F_6 Ar_7 => wm_looks F_6 Ar_7 a1 (fun F_9 Ar_10 => ((¬ (F_9 45) = (-1) → ((¬ a2 = 0 → ((¬ a2 = 1 → Q (F_9 47) F_9 Ar_10) ∧ (a2 = 1 → Q (F_9 46) F_9 Ar_10))) ∧ (a2 = 0 → Q (F_9 45) F_9 Ar_10))) ∧ ((F_9 45) = (-1) → Q (-1) F_9 Ar_10))))) ∧ (r_3 = 0 → Q (-7) F Ar)))) ∧ (r_1 = 0 → Q (-5) F Ar)))
set_option maxHeartbeats 4000000 in
theorem twm_judge (l : Launch) (D : va_G) (cl : List vw_C) (ci : Nat) (dA dL : ClassId) (ad : Nat → Nat) (F : tF) (Ar : tA) (a1 : Int32) (a2 : Int32) (Q : Int32 → tF → tA → Prop) (hw : wm_judge F Ar a1 a2 Q) : Met l yX7_judge (ws_ yX7_judge cX7_judge 3 (some .int)) ({ frames := 5, cells := 0, slots := 0, locals := 124 }) (mPc D cl ci dA dL ad F Ar [.int a1, .int a2]) (mQi D cl ci dA dL ad Q) 0 0 (mReg ad) := by
  refine m_entry (by decide) rfl (Nat.le_of_ble_eq_true rfl) ?_
  intro p e s m below meth c ls X hr P hl
  obtain ⟨hx, hb, hml, hown, hts, -, -, hlk⟩ := id X
  have S : CallFix p m c _ _ s _ lw_all RX7 := ⟨hx, hb, hml, hown, hts⟩
  have hl : lv_has ls 3 [(0, .ref (ad 0)), (1, .int a1), (2, .int a2)] := hl
  refine lv_aload_n hx hb dX7_judge_0 rfl (lv_at hl 0 rfl) ?_
  refine lv_iload_n hx hb dX7_judge_1 rfl (lv_at hl 1 rfl) ?_
  refine cwm_isWay X P hw ⟨Nat.le_of_ble_eq_true rfl, Nat.le_of_ble_eq_true rfl⟩ hl.1 (Nat.le_of_ble_eq_true rfl) dX7_judge_2 (fun r_1 hw => ?_)
  refine lv_if_ne (tgt := 11) hx hb dX7_judge_5 (by decide) (fun c_2 => ?_) (fun c_2 => ?_)
  · replace hw := hw.1 c_2
    refine lv_iload_n hx hb dX7_judge_11 rfl (lv_at hl 2 rfl) ?_
    refine lv_iconst (v := 0) hx hb dX7_judge_12 (by decide) ?_
    refine lv_iconst (v := 2) hx hb dX7_judge_13 (by decide) ?_
    refine cwm_in S hw ⟨Nat.le_of_ble_eq_true rfl, Nat.le_of_ble_eq_true rfl⟩ hl.1 (Nat.le_of_ble_eq_true rfl) dX7_judge_14 (fun r_3 hw => ?_)
    refine lv_if_ne (tgt := 23) hx hb dX7_judge_17 (by decide) (fun c_4 => ?_) (fun c_4 => ?_)
    · replace hw := hw.1 c_4
      refine lv_aload_n hx hb dX7_judge_23 rfl (lv_at hl 0 rfl) ?_
      refine lv_iload_n hx hb dX7_judge_24 rfl (lv_at hl 1 rfl) ?_
      refine cwm_lays X P hw ⟨Nat.le_of_ble_eq_true rfl, Nat.le_of_ble_eq_true rfl⟩ hl.1 (Nat.le_of_ble_eq_true rfl) dX7_judge_25 (fun F_6 Ar_7 H locs hw P => ?_)
      refine lv_aload_n hx hb dX7_judge_28 rfl (lv_at hl 0 rfl) ?_
      refine lv_iload_n hx hb dX7_judge_29 rfl (lv_at hl 1 rfl) ?_
      refine cwm_looks X P hw ⟨Nat.le_of_ble_eq_true rfl, Nat.le_of_ble_eq_true rfl⟩ hl.1 (Nat.le_of_ble_eq_true rfl) dX7_judge_30 (fun F_9 Ar_10 H locs hw P => ?_)
      refine lv_aload_n hx hb dX7_judge_33 rfl (lv_at hl 0 rfl) ?_
      refine mg_restless X P dX7_judge_34 ?_
      refine lv_iconst (v := (-1)) hx hb dX7_judge_37 (by decide) ?_
      refine lv_icmp_ne (tgt := 45) hx hb dX7_judge_38 (by decide) (fun c_11 => ?_) (fun c_11 => ?_)
      · replace hw := hw.1 c_11
        refine lv_iload_n hx hb dX7_judge_45 rfl (lv_at hl 2 rfl) ?_
        refine lv_if_ne (tgt := 56) hx hb dX7_judge_46 (by decide) (fun c_12 => ?_) (fun c_12 => ?_)
        · replace hw := hw.1 c_12
          refine lv_iload_n hx hb dX7_judge_56 rfl (lv_at hl 2 rfl) ?_
          refine lv_iconst (v := 1) hx hb dX7_judge_57 (by decide) ?_
          refine lv_icmp_ne (tgt := 68) hx hb dX7_judge_58 (by decide) (fun c_13 => ?_) (fun c_13 => ?_)
          · replace hw := hw.1 c_13
            refine lv_aload_n hx hb dX7_judge_68 rfl (lv_at hl 0 rfl) ?_
            refine mg_less X P dX7_judge_69 ?_
            exact m_iret X P hr hw dX7_judge_72
          · replace hw := hw.2 c_13
            refine lv_aload_n hx hb dX7_judge_61 rfl (lv_at hl 0 rfl) ?_
            refine mg_better X P dX7_judge_62 ?_
            refine lv_goto (tgt := 72) hx hb dX7_judge_65 (by decide) ?_
            exact m_iret X P hr hw dX7_judge_72
        · replace hw := hw.2 c_12
          refine lv_aload_n hx hb dX7_judge_49 rfl (lv_at hl 0 rfl) ?_
          refine mg_restless X P dX7_judge_50 ?_
          refine lv_goto (tgt := 72) hx hb dX7_judge_53 (by decide) ?_
          exact m_iret X P hr hw dX7_judge_72
      · replace hw := hw.2 c_11
        refine lv_iconst (v := (-1)) hx hb dX7_judge_41 (by decide) ?_
        refine lv_goto (tgt := 72) hx hb dX7_judge_42 (by decide) ?_
        exact m_iret X P hr hw dX7_judge_72
    · replace hw := hw.2 c_4
      refine lv_bipush (v := (-7)) hx hb dX7_judge_20 (by decide) ?_
      exact m_iret X P hr hw dX7_judge_22
  · replace hw := hw.2 c_2
    refine lv_bipush (v := (-5)) hx hb dX7_judge_8 (by decide) ?_
    exact m_iret X P hr hw dX7_judge_10
-- moves
def wm_moves_J65 (F : tF) (Ar : tA) (y1_12 : Int32) (y2_12 : Int32) (y3_12 : Int32) (z0_12 : Int32) (Kh13_3 : tF → tA → Int32 → Int32 → Prop) (Q : Int32 → tF → tA → Prop) : Prop :=
  (Kh13_3 F Ar y3_12 z0_12)
set_option maxHeartbeats 4000000 in
theorem kwm_moves_J65 {Q : Int32 → tF → tA → Prop} (X : mCx p s m args meth c cX7_moves 5 D cl ci dA dL) (hr : meth.sig.returnType = (some .int)) {F : tF} {Ar : tA} (y1_12 : Int32) (y2_12 : Int32) (y3_12 : Int32) (z0_12 : Int32) (Kh13_3 : tF → tA → Int32 → Int32 → Prop) {H : Heap} {locs : List Loc} {ls : Array Slot} (P : mP D cl (mReg ad) ci dA dL ad s.heap F Ar H locs) (hl : lv_has ls 5 [(0, .ref (ad 0)), (1, .int y1_12), (2, .int y2_12), (3, .int y3_12)]) (hw : wm_moves_J65 F Ar y1_12 y2_12 y3_12 z0_12 Kh13_3 Q) (hKh13_3 : ∀ (F_ : tF) (Ar_ : tA) (w3_ : Int32) (w4_ : Int32) (H : Heap) (locs : List Loc) (ls : Array Slot), mP D cl (mReg ad) ci dA dL ad s.heap F_ Ar_ H locs → lv_has ls 5 [(0, .ref (ad 0)), (1, .int y1_12), (2, .int y2_12), (3, .int w3_), (4, .int w4_)] → Kh13_3 F_ Ar_ w3_ w4_ → W p l e ({ frames := 5, cells := 0, slots := 0, locals := 124 }) s m args below meth c H locs 0 0 (MQ below (mQi D cl ci dA dL ad Q) args s 0 0 (mReg ad)) (F0 m 13 ls [])) : W p l e ({ frames := 5, cells := 0, slots := 0, locals := 124 }) s m args below meth c H locs 0 0 (MQ below (mQi D cl ci dA dL ad Q) args s 0 0 (mReg ad)) (F0 m 65 ls [.int z0_12]) := by
  obtain ⟨hx, hb, hml, hown, hts, -, -, hlk⟩ := id X
  have S : CallFix p m c _ _ s args lw_all RX7 := ⟨hx, hb, hml, hown, hts⟩
  refine lv_istore (lv' := [(4, .int z0_12), (0, .ref (ad 0)), (1, .int y1_12), (2, .int y2_12), (3, .int y3_12)]) hx hb dX7_moves_65 hl (by decide) rfl (fun ls hl => ?_)
  refine lv_goto (tgt := 13) hx hb dX7_moves_67 (by decide) ?_
  exact hKh13_3 _ _ _ _ _ _ _ P (lv_sub hl [1, 2, 3, 4, 0] rfl) hw
def wm_moves_J64 (F : tF) (Ar : tA) (y1_11 : Int32) (y2_11 : Int32) (y3_11 : Int32) (Kh13_3 : tF → tA → Int32 → Int32 → Prop) (Q : Int32 → tF → tA → Prop) : Prop :=
  (wm_moves_J65 F Ar y1_11 y2_11 y3_11 0 Kh13_3 Q)
set_option maxHeartbeats 4000000 in
theorem kwm_moves_J64 {Q : Int32 → tF → tA → Prop} (X : mCx p s m args meth c cX7_moves 5 D cl ci dA dL) (hr : meth.sig.returnType = (some .int)) {F : tF} {Ar : tA} (y1_11 : Int32) (y2_11 : Int32) (y3_11 : Int32) (Kh13_3 : tF → tA → Int32 → Int32 → Prop) {H : Heap} {locs : List Loc} {ls : Array Slot} (P : mP D cl (mReg ad) ci dA dL ad s.heap F Ar H locs) (hl : lv_has ls 5 [(0, .ref (ad 0)), (1, .int y1_11), (2, .int y2_11), (3, .int y3_11)]) (hw : wm_moves_J64 F Ar y1_11 y2_11 y3_11 Kh13_3 Q) (hKh13_3 : ∀ (F_ : tF) (Ar_ : tA) (w3_ : Int32) (w4_ : Int32) (H : Heap) (locs : List Loc) (ls : Array Slot), mP D cl (mReg ad) ci dA dL ad s.heap F_ Ar_ H locs → lv_has ls 5 [(0, .ref (ad 0)), (1, .int y1_11), (2, .int y2_11), (3, .int w3_), (4, .int w4_)] → Kh13_3 F_ Ar_ w3_ w4_ → W p l e ({ frames := 5, cells := 0, slots := 0, locals := 124 }) s m args below meth c H locs 0 0 (MQ below (mQi D cl ci dA dL ad Q) args s 0 0 (mReg ad)) (F0 m 13 ls [])) : W p l e ({ frames := 5, cells := 0, slots := 0, locals := 124 }) s m args below meth c H locs 0 0 (MQ below (mQi D cl ci dA dL ad Q) args s 0 0 (mReg ad)) (F0 m 64 ls []) := by
  obtain ⟨hx, hb, hml, hown, hts, -, -, hlk⟩ := id X
  have S : CallFix p m c _ _ s args lw_all RX7 := ⟨hx, hb, hml, hown, hts⟩
  refine lv_iconst (v := 0) hx hb dX7_moves_64 (by decide) ?_
  exact kwm_moves_J65 X hr _ _ _ _ _ P (lv_sub hl [0, 1, 2, 3] rfl) hw hKh13_3
def wm_moves_J47 (F : tF) (Ar : tA) (y1_9 : Int32) (y2_9 : Int32) (y3_9 : Int32) (Kh13_3 : tF → tA → Int32 → Int32 → Prop) (Q : Int32 → tF → tA → Prop) : Prop :=
  (((F 45) = (-1) → (wm_moves_J64 F Ar y1_9 y2_9 y3_9 Kh13_3 Q)) ∧ (¬ (F 45) = (-1) → ((y2_9 ≤ y3_9 → (wm_moves_J64 F Ar y1_9 y2_9 y3_9 Kh13_3 Q)) ∧ (¬ y2_9 ≤ y3_9 → (wm_moves_J65 F Ar y1_9 y2_9 y3_9 1 Kh13_3 Q)))))
set_option maxHeartbeats 4000000 in
theorem kwm_moves_J47 {Q : Int32 → tF → tA → Prop} (X : mCx p s m args meth c cX7_moves 5 D cl ci dA dL) (hr : meth.sig.returnType = (some .int)) {F : tF} {Ar : tA} (y1_9 : Int32) (y2_9 : Int32) (y3_9 : Int32) (Kh13_3 : tF → tA → Int32 → Int32 → Prop) {H : Heap} {locs : List Loc} {ls : Array Slot} (P : mP D cl (mReg ad) ci dA dL ad s.heap F Ar H locs) (hl : lv_has ls 5 [(0, .ref (ad 0)), (1, .int y1_9), (2, .int y2_9), (3, .int y3_9)]) (hw : wm_moves_J47 F Ar y1_9 y2_9 y3_9 Kh13_3 Q) (hKh13_3 : ∀ (F_ : tF) (Ar_ : tA) (w3_ : Int32) (w4_ : Int32) (H : Heap) (locs : List Loc) (ls : Array Slot), mP D cl (mReg ad) ci dA dL ad s.heap F_ Ar_ H locs → lv_has ls 5 [(0, .ref (ad 0)), (1, .int y1_9), (2, .int y2_9), (3, .int w3_), (4, .int w4_)] → Kh13_3 F_ Ar_ w3_ w4_ → W p l e ({ frames := 5, cells := 0, slots := 0, locals := 124 }) s m args below meth c H locs 0 0 (MQ below (mQi D cl ci dA dL ad Q) args s 0 0 (mReg ad)) (F0 m 13 ls [])) : W p l e ({ frames := 5, cells := 0, slots := 0, locals := 124 }) s m args below meth c H locs 0 0 (MQ below (mQi D cl ci dA dL ad Q) args s 0 0 (mReg ad)) (F0 m 47 ls []) := by
  obtain ⟨hx, hb, hml, hown, hts, -, -, hlk⟩ := id X
  have S : CallFix p m c _ _ s args lw_all RX7 := ⟨hx, hb, hml, hown, hts⟩
  refine lv_aload_n hx hb dX7_moves_47 rfl (lv_at hl 0 rfl) ?_
  refine mg_restless X P dX7_moves_48 ?_
  refine lv_iconst (v := (-1)) hx hb dX7_moves_51 (by decide) ?_
  refine lv_icmp_eq (tgt := 64) hx hb dX7_moves_52 (by decide) (fun c_10 => ?_) (fun c_10 => ?_)
  · replace hw := hw.1 c_10
    exact kwm_moves_J64 X hr _ _ _ _ P (lv_sub hl [0, 1, 2, 3] rfl) hw hKh13_3
  · replace hw := hw.2 c_10
    refine lv_iload_n hx hb dX7_moves_55 rfl (lv_at hl 3 rfl) ?_
    refine lv_iload_n hx hb dX7_moves_56 rfl (lv_at hl 2 rfl) ?_
    refine lv_icmp_ge (tgt := 64) hx hb dX7_moves_57 (by decide) (fun c_13 => ?_) (fun c_13 => ?_)
    · replace hw := hw.1 c_13
      exact kwm_moves_J64 X hr _ _ _ _ P (lv_sub hl [0, 1, 2, 3] rfl) hw hKh13_3
    · replace hw := hw.2 c_13
      refine lv_iconst (v := 1) hx hb dX7_moves_60 (by decide) ?_
      refine lv_goto (tgt := 65) hx hb dX7_moves_61 (by decide) ?_
      exact kwm_moves_J65 X hr _ _ _ _ _ P (lv_sub hl [0, 1, 2, 3] rfl) hw hKh13_3
def wm_moves_L13 (y1_3 : Int32) (y2_3 : Int32) (Q : Int32 → tF → tA → Prop) : Nat → tF → tA → Int32 → Int32 → Prop
  | 0, _, _, _, _ => False
  | f13 + 1, F, Ar, y3_3, y4_3 =>
    ((y4_3 = 0 → Q y3_3 F Ar) ∧ (¬ y4_3 = 0 → wm_looks F Ar y1_3 (fun F_6 Ar_7 => (((F_6 45) = (-1) → (wm_moves_J47 F_6 Ar_7 y1_3 y2_3 y3_3 (wm_moves_L13 y1_3 y2_3 Q f13) Q)) ∧ (¬ (F_6 45) = (-1) → vp_in (F_6 45) 16 ∧ ∀ Ar_14 : tA, Ar_14 = aset Ar_7 40 (F_6 45).toNatClampNeg (F_6 46) → (wm_moves_J47 F_6 Ar_14 y1_3 y2_3 (y3_3 + 1) (wm_moves_L13 y1_3 y2_3 Q f13) Q))))))
set_option maxHeartbeats 4000000 in
theorem kwm_moves_L13 {Q : Int32 → tF → tA → Prop} (X : mCx p s m args meth c cX7_moves 5 D cl ci dA dL) (hr : meth.sig.returnType = (some .int)) (y1_3 : Int32) (y2_3 : Int32) : ∀ (n : Nat) (F : tF) (Ar : tA) (y3_3 : Int32) (y4_3 : Int32) (H : Heap) (locs : List Loc) (ls : Array Slot), mP D cl (mReg ad) ci dA dL ad s.heap F Ar H locs → lv_has ls 5 [(0, .ref (ad 0)), (1, .int y1_3), (2, .int y2_3), (3, .int y3_3), (4, .int y4_3)] → wm_moves_L13 y1_3 y2_3 Q n F Ar y3_3 y4_3 → W p l e ({ frames := 5, cells := 0, slots := 0, locals := 124 }) s m args below meth c H locs 0 0 (MQ below (mQi D cl ci dA dL ad Q) args s 0 0 (mReg ad)) (F0 m 13 ls []) := by
  obtain ⟨hx, hb, hml, hown, hts, -, -, hlk⟩ := id X
  have S : CallFix p m c _ _ s args lw_all RX7 := ⟨hx, hb, hml, hown, hts⟩
  intro n
  induction n with
  | zero =>
    intro F Ar y3_3 y4_3 H locs ls P hl hw
    exact hw.elim
  | succ n ih =>
    intro F Ar y3_3 y4_3 H locs ls P hl hw
    have hKh13_3 := ih
    refine lv_iload hx hb dX7_moves_13 (lv_at hl 4 rfl) ?_
    refine lv_if_eq (tgt := 70) hx hb dX7_moves_15 (by decide) (fun c_4 => ?_) (fun c_4 => ?_)
    · replace hw := hw.1 c_4
      refine lv_iload_n hx hb dX7_moves_70 rfl (lv_at hl 3 rfl) ?_
      exact m_iret X P hr hw dX7_moves_71
    · replace hw := hw.2 c_4
      refine lv_aload_n hx hb dX7_moves_18 rfl (lv_at hl 0 rfl) ?_
      refine lv_iload_n hx hb dX7_moves_19 rfl (lv_at hl 1 rfl) ?_
      refine cwm_looks X P hw ⟨Nat.le_of_ble_eq_true rfl, Nat.le_of_ble_eq_true rfl⟩ hl.1 (Nat.le_of_ble_eq_true rfl) dX7_moves_20 (fun F_6 Ar_7 H locs hw P => ?_)
      refine lv_aload_n hx hb dX7_moves_23 rfl (lv_at hl 0 rfl) ?_
      refine mg_restless X P dX7_moves_24 ?_
      refine lv_iconst (v := (-1)) hx hb dX7_moves_27 (by decide) ?_
      refine lv_icmp_eq (tgt := 47) hx hb dX7_moves_28 (by decide) (fun c_8 => ?_) (fun c_8 => ?_)
      · replace hw := hw.1 c_8
        exact kwm_moves_J47 X hr _ _ _ _ P (lv_sub hl [0, 1, 2, 3] rfl) hw hKh13_3
      · replace hw := hw.2 c_8
        refine lv_aload_n hx hb dX7_moves_31 rfl (lv_at hl 0 rfl) ?_
        refine mg_now X P dX7_moves_32 ?_
        refine lv_aload_n hx hb dX7_moves_35 rfl (lv_at hl 0 rfl) ?_
        refine mg_restless X P dX7_moves_36 ?_
        refine lv_aload_n hx hb dX7_moves_39 rfl (lv_at hl 0 rfl) ?_
        refine mg_better X P dX7_moves_40 ?_
        refine m_iast X P 40 rfl (by decide) hw.1 dX7_moves_43 (fun Ar_14 H locs eAr_14 P => ?_)
        replace hw := hw.2
        replace hw := hw Ar_14 eAr_14
        refine lv_iinc (v := (y3_3 + 1)) (lv' := [(3, .int (y3_3 + 1)), (0, .ref (ad 0)), (1, .int y1_3), (2, .int y2_3), (4, .int y4_3)]) hx hb dX7_moves_44 hl (k := 3) rfl rfl (by decide) rfl (fun ls hl => ?_)
        exact kwm_moves_J47 X hr _ _ _ _ P (lv_sub hl [1, 2, 3, 0] rfl) hw hKh13_3
def wm_moves_J11 (F : tF) (Ar : tA) (y1_2 : Int32) (y2_2 : Int32) (y3_2 : Int32) (z0_2 : Int32) (Q : Int32 → tF → tA → Prop) : Prop :=
  (∃ n13, wm_moves_L13 y1_2 y2_2 Q n13 F Ar y3_2 z0_2)
set_option maxHeartbeats 4000000 in
theorem kwm_moves_J11 {Q : Int32 → tF → tA → Prop} (X : mCx p s m args meth c cX7_moves 5 D cl ci dA dL) (hr : meth.sig.returnType = (some .int)) {F : tF} {Ar : tA} (y1_2 : Int32) (y2_2 : Int32) (y3_2 : Int32) (z0_2 : Int32) {H : Heap} {locs : List Loc} {ls : Array Slot} (P : mP D cl (mReg ad) ci dA dL ad s.heap F Ar H locs) (hl : lv_has ls 5 [(0, .ref (ad 0)), (1, .int y1_2), (2, .int y2_2), (3, .int y3_2)]) (hw : wm_moves_J11 F Ar y1_2 y2_2 y3_2 z0_2 Q) : W p l e ({ frames := 5, cells := 0, slots := 0, locals := 124 }) s m args below meth c H locs 0 0 (MQ below (mQi D cl ci dA dL ad Q) args s 0 0 (mReg ad)) (F0 m 11 ls [.int z0_2]) := by
  obtain ⟨hx, hb, hml, hown, hts, -, -, hlk⟩ := id X
  have S : CallFix p m c _ _ s args lw_all RX7 := ⟨hx, hb, hml, hown, hts⟩
  refine lv_istore (lv' := [(4, .int z0_2), (0, .ref (ad 0)), (1, .int y1_2), (2, .int y2_2), (3, .int y3_2)]) hx hb dX7_moves_11 hl (by decide) rfl (fun ls hl => ?_)
  obtain ⟨n_15, hw⟩ := hw
  refine kwm_moves_L13 X hr _ _    n_15 _ _ _ _ _ _ _ P (lv_sub hl [1, 2, 3, 4, 0] rfl) hw
def wm_moves (F : tF) (Ar : tA) (a1 : Int32) (a2 : Int32) (Q : Int32 → tF → tA → Prop) : Prop :=
  ((a2 ≤ 0 → (wm_moves_J11 F Ar a1 a2 0 0 Q)) ∧ (¬ a2 ≤ 0 → (wm_moves_J11 F Ar a1 a2 0 1 Q)))
set_option maxHeartbeats 4000000 in
theorem twm_moves (l : Launch) (D : va_G) (cl : List vw_C) (ci : Nat) (dA dL : ClassId) (ad : Nat → Nat) (F : tF) (Ar : tA) (a1 : Int32) (a2 : Int32) (Q : Int32 → tF → tA → Prop) (hw : wm_moves F Ar a1 a2 Q) : Met l yX7_moves (ws_ yX7_moves cX7_moves 5 (some .int)) ({ frames := 5, cells := 0, slots := 0, locals := 124 }) (mPc D cl ci dA dL ad F Ar [.int a1, .int a2]) (mQi D cl ci dA dL ad Q) 0 0 (mReg ad) := by
  refine m_entry (by decide) rfl (Nat.le_of_ble_eq_true rfl) ?_
  intro p e s m below meth c ls X hr P hl
  obtain ⟨hx, hb, hml, hown, hts, -, -, hlk⟩ := id X
  have S : CallFix p m c _ _ s _ lw_all RX7 := ⟨hx, hb, hml, hown, hts⟩
  have hl : lv_has ls 5 [(0, .ref (ad 0)), (1, .int a1), (2, .int a2)] := hl
  refine lv_iconst (v := 0) hx hb dX7_moves_0 (by decide) ?_
  refine lv_istore_n (lv' := [(3, .int 0), (0, .ref (ad 0)), (1, .int a1), (2, .int a2)]) hx hb dX7_moves_1 rfl hl (by decide) rfl (fun ls hl => ?_)
  refine lv_iload_n hx hb dX7_moves_2 rfl (lv_at hl 3 rfl) ?_
  refine lv_if_le (tgt := 10) hx hb dX7_moves_3 (by decide) (fun c_1 => ?_) (fun c_1 => ?_)
  · replace hw := hw.1 c_1
    refine lv_iconst (v := 0) hx hb dX7_moves_10 (by decide) ?_
    exact kwm_moves_J11 X hr _ _ _ _ P (lv_sub hl [1, 2, 3, 0] rfl) hw
  · replace hw := hw.2 c_1
    refine lv_iconst (v := 1) hx hb dX7_moves_6 (by decide) ?_
    refine lv_goto (tgt := 11) hx hb dX7_moves_7 (by decide) ?_
    exact kwm_moves_J11 X hr _ _ _ _ P (lv_sub hl [1, 2, 3, 0] rfl) hw
theorem cwm_moves {Q : Int32 → tF → tA → Prop} {a1 : Int32} {a2 : Int32} {Z : State → Prop} {H : Heap} {locs : List Loc} {F : tF} {Ar : tA} (X : mCx p s m args meth c cc nL D cl ci dA dL) (P : mP D cl (mReg ad) ci dA dL ad s.heap F Ar H locs) (hw : wm_moves F Ar a1 a2 Q) (hR : 5 + 1 ≤ R.frames ∧ 8 + (5 + 11) + 124 ≤ R.locals) (hls : ls.size = nL) (hst : (rest.map fun v => v.category).sum ≤ 8) (hdg : decode cc pc = .ok (.invokevirtual 284, 3)) (kk : ∀ (r : Int32) (F1 : tF) (A1 : tA) (H1 : Heap) (locs1 : List Loc), Q r F1 A1 → mP D cl (mReg ad) ci dA dL ad s.heap F1 A1 H1 locs1 → W p l e R s m args below meth c H1 locs1 0 0 Z (F0 m (pc + 3) ls (.int r :: rest))) : W p l e R s m args below meth c H locs 0 0 Z (F0 m pc ls (.int a2 :: .int a1 :: .ref (ad 0) :: rest)) := by
  obtain ⟨hx, hb, hml, hown, hts, hK, hc, hlk⟩ := X
  exact va_calli (m_runV (as := [.int a1, .int a2]) hx hb hml hown hts hK hc P.1 P.2.1 (twm_moves l D cl ci dA dL ad F Ar a1 a2 Q hw) (cwV 2 hts (lw_V q1681 q1683 qs60 q88 q1684) rfl rfl rfl (by decide +kernel) hR) rfl hls hst hdg ⟨Nat.zero_le _, Nat.zero_le _⟩) P.2.2 (fun q _ h => h) (fun q h => h) (fun r u t H1 locs1 ht hvm hp hB _ _ hS => kk r u.1 u.2 H1 locs1 hp ⟨by rw [← ht]; exact hB, P.2.1.to (fun k h => mM_dom.mpr (mM_dom.mp h)), hS⟩)
-- rest
def wm_rest_L39 (F : tF) (y1_11 : Int32) (y3_11 : Int32) (Q : Int32 → tF → tA → Prop) : Nat → tA → Int32 → Prop
  | 0, _, _ => False
  | f39 + 1, Ar, y4_11 =>
    vp_in y1_11 8 ∧ (((Ar 10 y1_11.toNatClampNeg) ≤ y4_11 → Q y3_11 F Ar) ∧ (¬ (Ar 10 y1_11.toNatClampNeg) ≤ y4_11 → vp_in y4_11 16 ∧ vp_in ((16 * y1_11) + y4_11) 128 ∧ ∀ Ar_13 : tA, Ar_13 = aset Ar 11 ((16 * y1_11) + y4_11).toNatClampNeg (Ar 40 y4_11.toNatClampNeg) → ((wm_rest_L39 F y1_11 y3_11 Q f39) Ar_13 (y4_11 + 1))))
set_option maxHeartbeats 4000000 in
theorem kwm_rest_L39 {Q : Int32 → tF → tA → Prop} (X : mCx p s m args meth c cX7_rest 5 D cl ci dA dL) (hr : meth.sig.returnType = (some .int)) (F : tF) (y1_11 : Int32) (y3_11 : Int32) : ∀ (n : Nat) (Ar : tA) (y4_11 : Int32) (H : Heap) (locs : List Loc) (ls : Array Slot), mP D cl (mReg ad) ci dA dL ad s.heap F Ar H locs → lv_has ls 5 [(0, .ref (ad 0)), (1, .int y1_11), (3, .int y3_11), (4, .int y4_11)] → wm_rest_L39 F y1_11 y3_11 Q n Ar y4_11 → W p l e ({ frames := 6, cells := 0, slots := 0, locals := 148 }) s m args below meth c H locs 0 0 (MQ below (mQi D cl ci dA dL ad Q) args s 0 0 (mReg ad)) (F0 m 39 ls []) := by
  obtain ⟨hx, hb, hml, hown, hts, -, -, hlk⟩ := id X
  have S : CallFix p m c _ _ s args lw_all RX7 := ⟨hx, hb, hml, hown, hts⟩
  intro n
  induction n with
  | zero =>
    intro Ar y4_11 H locs ls P hl hw
    exact hw.elim
  | succ n ih =>
    intro Ar y4_11 H locs ls P hl hw
    have hKh39_11 := ih
    refine lv_iload hx hb dX7_rest_39 (lv_at hl 3 rfl) ?_
    refine lv_aload_n hx hb dX7_rest_41 rfl (lv_at hl 0 rfl) ?_
    refine mg_many X P dX7_rest_42 ?_
    refine lv_iload_n hx hb dX7_rest_45 rfl (lv_at hl 1 rfl) ?_
    refine m_iald X P 10 rfl (by decide) hw.1 dX7_rest_46 ?_
    replace hw := hw.2
    refine lv_icmp_ge (tgt := 75) hx hb dX7_rest_47 (by decide) (fun c_12 => ?_) (fun c_12 => ?_)
    · replace hw := hw.1 c_12
      refine lv_iload_n hx hb dX7_rest_75 rfl (lv_at hl 2 rfl) ?_
      exact m_iret X P hr hw dX7_rest_76
    · replace hw := hw.2 c_12
      refine lv_aload_n hx hb dX7_rest_50 rfl (lv_at hl 0 rfl) ?_
      refine mg_choice X P dX7_rest_51 ?_
      refine lv_bipush (v := 16) hx hb dX7_rest_54 (by decide) ?_
      refine lv_iload_n hx hb dX7_rest_56 rfl (lv_at hl 1 rfl) ?_
      refine lv_imul hx hb dX7_rest_57 ?_
      refine lv_iload hx hb dX7_rest_58 (lv_at hl 3 rfl) ?_
      refine lv_iadd hx hb dX7_rest_60 ?_
      refine lv_aload_n hx hb dX7_rest_61 rfl (lv_at hl 0 rfl) ?_
      refine mg_now X P dX7_rest_62 ?_
      refine lv_iload hx hb dX7_rest_65 (lv_at hl 3 rfl) ?_
      refine m_iald X P 40 rfl (by decide) hw.1 dX7_rest_67 ?_
      replace hw := hw.2
      refine m_iast X P 11 rfl (by decide) hw.1 dX7_rest_68 (fun Ar_13 H locs eAr_13 P => ?_)
      replace hw := hw.2
      replace hw := hw Ar_13 eAr_13
      refine lv_iinc (v := (y4_11 + 1)) (lv' := [(4, .int (y4_11 + 1)), (0, .ref (ad 0)), (1, .int y1_11), (3, .int y3_11)]) hx hb dX7_rest_69 hl (k := 3) rfl rfl (by decide) rfl (fun ls hl => ?_)
      refine lv_goto (tgt := 39) hx hb dX7_rest_72 (by decide) ?_
      exact hKh39_11 _ _ _ _ _ P (lv_sub hl [1, 2, 3, 0] rfl) hw
def wm_rest (F : tF) (Ar : tA) (a1 : Int32) (a2 : Int32) (Q : Int32 → tF → tA → Prop) : Prop :=
  wm_isWay F Ar a1 (fun r_1 => ((¬ r_1 = 0 → wm_in a2 0 8 (fun r_3 => ((¬ r_3 = 0 → wm_lays F Ar a1 (fun F_6 Ar_7 => wm_moves F_6 Ar_7 a1 a2 (fun r_8 F_9 Ar_10 => (∃ n39, wm_rest_L39 F_9 a1 r_8 Q n39 Ar_10 0)))) ∧ (r_3 = 0 → Q (-7) F Ar)))) ∧ (r_1 = 0 → Q (-5) F Ar)))
set_option maxHeartbeats 4000000 in
theorem twm_rest (l : Launch) (D : va_G) (cl : List vw_C) (ci : Nat) (dA dL : ClassId) (ad : Nat → Nat) (F : tF) (Ar : tA) (a1 : Int32) (a2 : Int32) (Q : Int32 → tF → tA → Prop) (hw : wm_rest F Ar a1 a2 Q) : Met l yX7_rest (ws_ yX7_rest cX7_rest 5 (some .int)) ({ frames := 6, cells := 0, slots := 0, locals := 148 }) (mPc D cl ci dA dL ad F Ar [.int a1, .int a2]) (mQi D cl ci dA dL ad Q) 0 0 (mReg ad) := by
  refine m_entry (by decide) rfl (Nat.le_of_ble_eq_true rfl) ?_
  intro p e s m below meth c ls X hr P hl
  obtain ⟨hx, hb, hml, hown, hts, -, -, hlk⟩ := id X
  have S : CallFix p m c _ _ s _ lw_all RX7 := ⟨hx, hb, hml, hown, hts⟩
  have hl : lv_has ls 5 [(0, .ref (ad 0)), (1, .int a1), (2, .int a2)] := hl
  refine lv_aload_n hx hb dX7_rest_0 rfl (lv_at hl 0 rfl) ?_
  refine lv_iload_n hx hb dX7_rest_1 rfl (lv_at hl 1 rfl) ?_
  refine cwm_isWay X P hw ⟨Nat.le_of_ble_eq_true rfl, Nat.le_of_ble_eq_true rfl⟩ hl.1 (Nat.le_of_ble_eq_true rfl) dX7_rest_2 (fun r_1 hw => ?_)
  refine lv_if_ne (tgt := 11) hx hb dX7_rest_5 (by decide) (fun c_2 => ?_) (fun c_2 => ?_)
  · replace hw := hw.1 c_2
    refine lv_iload_n hx hb dX7_rest_11 rfl (lv_at hl 2 rfl) ?_
    refine lv_iconst (v := 0) hx hb dX7_rest_12 (by decide) ?_
    refine lv_bipush (v := 8) hx hb dX7_rest_13 (by decide) ?_
    refine cwm_in S hw ⟨Nat.le_of_ble_eq_true rfl, Nat.le_of_ble_eq_true rfl⟩ hl.1 (Nat.le_of_ble_eq_true rfl) dX7_rest_15 (fun r_3 hw => ?_)
    refine lv_if_ne (tgt := 24) hx hb dX7_rest_18 (by decide) (fun c_4 => ?_) (fun c_4 => ?_)
    · replace hw := hw.1 c_4
      refine lv_aload_n hx hb dX7_rest_24 rfl (lv_at hl 0 rfl) ?_
      refine lv_iload_n hx hb dX7_rest_25 rfl (lv_at hl 1 rfl) ?_
      refine cwm_lays X P hw ⟨Nat.le_of_ble_eq_true rfl, Nat.le_of_ble_eq_true rfl⟩ hl.1 (Nat.le_of_ble_eq_true rfl) dX7_rest_26 (fun F_6 Ar_7 H locs hw P => ?_)
      refine lv_aload_n hx hb dX7_rest_29 rfl (lv_at hl 0 rfl) ?_
      refine lv_iload_n hx hb dX7_rest_30 rfl (lv_at hl 1 rfl) ?_
      refine lv_iload_n hx hb dX7_rest_31 rfl (lv_at hl 2 rfl) ?_
      refine cwm_moves X P hw ⟨Nat.le_of_ble_eq_true rfl, Nat.le_of_ble_eq_true rfl⟩ hl.1 (Nat.le_of_ble_eq_true rfl) dX7_rest_32 (fun r_8 F_9 Ar_10 H locs hw P => ?_)
      refine lv_istore_n (lv' := [(3, .int r_8), (0, .ref (ad 0)), (1, .int a1), (2, .int a2)]) hx hb dX7_rest_35 rfl hl (by decide) rfl (fun ls hl => ?_)
      refine lv_iconst (v := 0) hx hb dX7_rest_36 (by decide) ?_
      refine lv_istore (lv' := [(4, .int 0), (3, .int r_8), (0, .ref (ad 0)), (1, .int a1), (2, .int a2)]) hx hb dX7_rest_37 hl (by decide) rfl (fun ls hl => ?_)
      obtain ⟨n_14, hw⟩ := hw
      refine kwm_rest_L39 X hr _ _ _    n_14 _ _ _ _ _ P (lv_sub hl [2, 3, 1, 0] rfl) hw
    · replace hw := hw.2 c_4
      refine lv_bipush (v := (-7)) hx hb dX7_rest_21 (by decide) ?_
      exact m_iret X P hr hw dX7_rest_23
  · replace hw := hw.2 c_2
    refine lv_bipush (v := (-5)) hx hb dX7_rest_8 (by decide) ?_
    exact m_iret X P hr hw dX7_rest_10
-- other
def wm_other (F : tF) (Ar : tA) (a1 : Int32) (a2 : Int32) (a3 : Int32) (Q : Int32 → tF → tA → Prop) : Prop :=
  wm_isOf F Ar a1 a2 (fun r_1 => ((r_1 = 0 → Q (-10000) F Ar) ∧ (¬ r_1 = 0 → wm_isChoice a3 (fun r_3 => ((¬ r_3 = 0 → wm_lays F Ar a1 (fun F_6 Ar_7 => wm_costBy F_6 Ar_7 a1 a2 a3 (fun r_8 F_9 Ar_10 => Q r_8 F_9 Ar_10))) ∧ (r_3 = 0 → Q (-10000) F Ar))))))
set_option maxHeartbeats 4000000 in
theorem twm_other (l : Launch) (D : va_G) (cl : List vw_C) (ci : Nat) (dA dL : ClassId) (ad : Nat → Nat) (F : tF) (Ar : tA) (a1 : Int32) (a2 : Int32) (a3 : Int32) (Q : Int32 → tF → tA → Prop) (hw : wm_other F Ar a1 a2 a3 Q) : Met l yX7_other (ws_ yX7_other cX7_other 4 (some .int)) ({ frames := 4, cells := 0, slots := 0, locals := 98 }) (mPc D cl ci dA dL ad F Ar [.int a1, .int a2, .int a3]) (mQi D cl ci dA dL ad Q) 0 0 (mReg ad) := by
  refine m_entry (by decide) rfl (Nat.le_of_ble_eq_true rfl) ?_
  intro p e s m below meth c ls X hr P hl
  obtain ⟨hx, hb, hml, hown, hts, -, -, hlk⟩ := id X
  have S : CallFix p m c _ _ s _ lw_all RX7 := ⟨hx, hb, hml, hown, hts⟩
  have hl : lv_has ls 4 [(0, .ref (ad 0)), (1, .int a1), (2, .int a2), (3, .int a3)] := hl
  refine lv_aload_n hx hb dX7_other_0 rfl (lv_at hl 0 rfl) ?_
  refine lv_iload_n hx hb dX7_other_1 rfl (lv_at hl 1 rfl) ?_
  refine lv_iload_n hx hb dX7_other_2 rfl (lv_at hl 2 rfl) ?_
  refine cwm_isOf X P hw ⟨Nat.le_of_ble_eq_true rfl, Nat.le_of_ble_eq_true rfl⟩ hl.1 (Nat.le_of_ble_eq_true rfl) dX7_other_3 (fun r_1 hw => ?_)
  refine lv_if_eq (tgt := 16) hx hb dX7_other_6 (by decide) (fun c_2 => ?_) (fun c_2 => ?_)
  · replace hw := hw.1 c_2
    refine lv_sipush (v := (-10000)) hx hb dX7_other_16 (by decide) ?_
    exact m_iret X P hr hw dX7_other_19
  · replace hw := hw.2 c_2
    refine lv_iload_n hx hb dX7_other_9 rfl (lv_at hl 3 rfl) ?_
    refine cwm_isChoice S hw ⟨Nat.le_of_ble_eq_true rfl, Nat.le_of_ble_eq_true rfl⟩ hl.1 (Nat.le_of_ble_eq_true rfl) dX7_other_10 (fun r_3 hw => ?_)
    refine lv_if_ne (tgt := 20) hx hb dX7_other_13 (by decide) (fun c_4 => ?_) (fun c_4 => ?_)
    · replace hw := hw.1 c_4
      refine lv_aload_n hx hb dX7_other_20 rfl (lv_at hl 0 rfl) ?_
      refine lv_iload_n hx hb dX7_other_21 rfl (lv_at hl 1 rfl) ?_
      refine cwm_lays X P hw ⟨Nat.le_of_ble_eq_true rfl, Nat.le_of_ble_eq_true rfl⟩ hl.1 (Nat.le_of_ble_eq_true rfl) dX7_other_22 (fun F_6 Ar_7 H locs hw P => ?_)
      refine lv_aload_n hx hb dX7_other_25 rfl (lv_at hl 0 rfl) ?_
      refine lv_iload_n hx hb dX7_other_26 rfl (lv_at hl 1 rfl) ?_
      refine lv_iload_n hx hb dX7_other_27 rfl (lv_at hl 2 rfl) ?_
      refine lv_iload_n hx hb dX7_other_28 rfl (lv_at hl 3 rfl) ?_
      refine cwm_costBy X P hw ⟨Nat.le_of_ble_eq_true rfl, Nat.le_of_ble_eq_true rfl⟩ hl.1 (Nat.le_of_ble_eq_true rfl) dX7_other_29 (fun r_8 F_9 Ar_10 H locs hw P => ?_)
      exact m_iret X P hr hw dX7_other_32
    · replace hw := hw.2 c_4
      refine lv_sipush (v := (-10000)) hx hb dX7_other_16 (by decide) ?_
      exact m_iret X P hr hw dX7_other_19
-- swap
def wm_swap (F : tF) (Ar : tA) (a1 : Int32) (a2 : Int32) (a3 : Int32) (Q : Int32 → tF → tA → Prop) : Prop :=
  wm_isOf F Ar a1 a2 (fun r_1 => ((r_1 = 0 → Q (-5) F Ar) ∧ (¬ r_1 = 0 → wm_isOf F Ar a1 a3 (fun r_3 => ((¬ r_3 = 0 → ((¬ a2 = a3 → wm_lays F Ar a1 (fun F_7 Ar_8 => wm_goes F_7 Ar_8 a1 (fun F_10 Ar_11 => wm_cost F_10 Ar_11 a1 a2 (fun r_12 F_13 Ar_14 => wm_cost F_13 Ar_14 a1 a3 (fun r_15 F_16 Ar_17 => vp_in a2 16 ∧ ∀ x6_18 : Int32, x6_18 = (Ar_17 40 a2.toNatClampNeg) → vp_in a3 16 ∧ vp_in a2 16 ∧ ∀ Ar_19 : tA, Ar_19 = aset Ar_17 40 a2.toNatClampNeg (Ar_17 40 a3.toNatClampNeg) → vp_in a3 16 ∧ ∀ Ar_20 : tA, Ar_20 = aset Ar_19 40 a3.toNatClampNeg x6_18 → wm_goes F_16 Ar_20 a1 (fun F_22 Ar_23 => wm_cost F_22 Ar_23 a1 a2 (fun r_24 F_25 Ar_26 => ((r_12 ≤ r_24 → Q 0 F_25 Ar_26) ∧ (¬ r_12 ≤ r_24 → wm_cost F_25 Ar_26 a1 a3 (fun r_28 F_29 Ar_30 => ((r_28 < r_15 → vp_in a2 16 ∧ vp_in ((16 * a1) + a2) 128 ∧ ∀ Ar_32 : tA, Ar_32 = aset Ar_30 11 ((16 * a1) + a2).toNatClampNeg (Ar_30 40 a2.toNatClampNeg) → vp_in a3 16 ∧ vp_in ((16 * a1) + a3) 128 ∧ ∀ Ar_33 : tA, Ar_33 = aset Ar_32 11 ((16 * a1) + a3).toNatClampNeg (Ar_32 40 a3.toNatClampNeg) → Q 1 F_29 Ar_33) ∧ (¬ r_28 < r_15 → Q 0 F_29 Ar_30)))))))))))) ∧ (a2 = a3 → Q (-7) F Ar))) ∧ (r_3 = 0 → Q (-5) F Ar))))))
set_option maxHeartbeats 4000000 in
theorem twm_swap (l : Launch) (D : va_G) (cl : List vw_C) (ci : Nat) (dA dL : ClassId) (ad : Nat → Nat) (F : tF) (Ar : tA) (a1 : Int32) (a2 : Int32) (a3 : Int32) (Q : Int32 → tF → tA → Prop) (hw : wm_swap F Ar a1 a2 a3 Q) : Met l yX7_swap (ws_ yX7_swap cX7_swap 7 (some .int)) ({ frames := 3, cells := 0, slots := 0, locals := 73 }) (mPc D cl ci dA dL ad F Ar [.int a1, .int a2, .int a3]) (mQi D cl ci dA dL ad Q) 0 0 (mReg ad) := by
  refine m_entry (by decide) rfl (Nat.le_of_ble_eq_true rfl) ?_
  intro p e s m below meth c ls X hr P hl
  obtain ⟨hx, hb, hml, hown, hts, -, -, hlk⟩ := id X
  have S : CallFix p m c _ _ s _ lw_all RX7 := ⟨hx, hb, hml, hown, hts⟩
  have hl : lv_has ls 7 [(0, .ref (ad 0)), (1, .int a1), (2, .int a2), (3, .int a3)] := hl
  refine lv_aload_n hx hb dX7_swap_0 rfl (lv_at hl 0 rfl) ?_
  refine lv_iload_n hx hb dX7_swap_1 rfl (lv_at hl 1 rfl) ?_
  refine lv_iload_n hx hb dX7_swap_2 rfl (lv_at hl 2 rfl) ?_
  refine cwm_isOf X P hw ⟨Nat.le_of_ble_eq_true rfl, Nat.le_of_ble_eq_true rfl⟩ hl.1 (Nat.le_of_ble_eq_true rfl) dX7_swap_3 (fun r_1 hw => ?_)
  refine lv_if_eq (tgt := 18) hx hb dX7_swap_6 (by decide) (fun c_2 => ?_) (fun c_2 => ?_)
  · replace hw := hw.1 c_2
    refine lv_bipush (v := (-5)) hx hb dX7_swap_18 (by decide) ?_
    exact m_iret X P hr hw dX7_swap_20
  · replace hw := hw.2 c_2
    refine lv_aload_n hx hb dX7_swap_9 rfl (lv_at hl 0 rfl) ?_
    refine lv_iload_n hx hb dX7_swap_10 rfl (lv_at hl 1 rfl) ?_
    refine lv_iload_n hx hb dX7_swap_11 rfl (lv_at hl 3 rfl) ?_
    refine cwm_isOf X P hw ⟨Nat.le_of_ble_eq_true rfl, Nat.le_of_ble_eq_true rfl⟩ hl.1 (Nat.le_of_ble_eq_true rfl) dX7_swap_12 (fun r_3 hw => ?_)
    refine lv_if_ne (tgt := 21) hx hb dX7_swap_15 (by decide) (fun c_4 => ?_) (fun c_4 => ?_)
    · replace hw := hw.1 c_4
      refine lv_iload_n hx hb dX7_swap_21 rfl (lv_at hl 2 rfl) ?_
      refine lv_iload_n hx hb dX7_swap_22 rfl (lv_at hl 3 rfl) ?_
      refine lv_icmp_ne (tgt := 29) hx hb dX7_swap_23 (by decide) (fun c_5 => ?_) (fun c_5 => ?_)
      · replace hw := hw.1 c_5
        refine lv_aload_n hx hb dX7_swap_29 rfl (lv_at hl 0 rfl) ?_
        refine lv_iload_n hx hb dX7_swap_30 rfl (lv_at hl 1 rfl) ?_
        refine cwm_lays X P hw ⟨Nat.le_of_ble_eq_true rfl, Nat.le_of_ble_eq_true rfl⟩ hl.1 (Nat.le_of_ble_eq_true rfl) dX7_swap_31 (fun F_7 Ar_8 H locs hw P => ?_)
        refine lv_aload_n hx hb dX7_swap_34 rfl (lv_at hl 0 rfl) ?_
        refine lv_iload_n hx hb dX7_swap_35 rfl (lv_at hl 1 rfl) ?_
        refine cwm_goes X P hw ⟨Nat.le_of_ble_eq_true rfl, Nat.le_of_ble_eq_true rfl⟩ hl.1 (Nat.le_of_ble_eq_true rfl) dX7_swap_36 (fun F_10 Ar_11 H locs hw P => ?_)
        refine lv_aload_n hx hb dX7_swap_39 rfl (lv_at hl 0 rfl) ?_
        refine lv_iload_n hx hb dX7_swap_40 rfl (lv_at hl 1 rfl) ?_
        refine lv_iload_n hx hb dX7_swap_41 rfl (lv_at hl 2 rfl) ?_
        refine cwm_cost X P hw ⟨Nat.le_of_ble_eq_true rfl, Nat.le_of_ble_eq_true rfl⟩ hl.1 (Nat.le_of_ble_eq_true rfl) dX7_swap_42 (fun r_12 F_13 Ar_14 H locs hw P => ?_)
        refine lv_istore (lv' := [(4, .int r_12), (0, .ref (ad 0)), (1, .int a1), (2, .int a2), (3, .int a3)]) hx hb dX7_swap_45 hl (by decide) rfl (fun ls hl => ?_)
        refine lv_aload_n hx hb dX7_swap_47 rfl (lv_at hl 1 rfl) ?_
        refine lv_iload_n hx hb dX7_swap_48 rfl (lv_at hl 2 rfl) ?_
        refine lv_iload_n hx hb dX7_swap_49 rfl (lv_at hl 4 rfl) ?_
        refine cwm_cost X P hw ⟨Nat.le_of_ble_eq_true rfl, Nat.le_of_ble_eq_true rfl⟩ hl.1 (Nat.le_of_ble_eq_true rfl) dX7_swap_50 (fun r_15 F_16 Ar_17 H locs hw P => ?_)
        refine lv_istore (lv' := [(5, .int r_15), (4, .int r_12), (0, .ref (ad 0)), (1, .int a1), (2, .int a2), (3, .int a3)]) hx hb dX7_swap_53 hl (by decide) rfl (fun ls hl => ?_)
        refine lv_aload_n hx hb dX7_swap_55 rfl (lv_at hl 2 rfl) ?_
        refine mg_now X P dX7_swap_56 ?_
        refine lv_iload_n hx hb dX7_swap_59 rfl (lv_at hl 4 rfl) ?_
        refine m_iald X P 40 rfl (by decide) hw.1 dX7_swap_60 ?_
        replace hw := hw.2
        refine lv_topi (fun x6_18 ex6_18 => ?_)
        replace hw := hw x6_18 ex6_18
        refine lv_istore (lv' := [(6, .int x6_18), (5, .int r_15), (4, .int r_12), (0, .ref (ad 0)), (1, .int a1), (2, .int a2), (3, .int a3)]) hx hb dX7_swap_61 hl (by decide) rfl (fun ls hl => ?_)
        refine lv_aload_n hx hb dX7_swap_63 rfl (lv_at hl 3 rfl) ?_
        refine mg_now X P dX7_swap_64 ?_
        refine lv_iload_n hx hb dX7_swap_67 rfl (lv_at hl 5 rfl) ?_
        refine lv_aload_n hx hb dX7_swap_68 rfl (lv_at hl 3 rfl) ?_
        refine mg_now X P dX7_swap_69 ?_
        refine lv_iload_n hx hb dX7_swap_72 rfl (lv_at hl 6 rfl) ?_
        refine m_iald X P 40 rfl (by decide) hw.1 dX7_swap_73 ?_
        replace hw := hw.2
        refine m_iast X P 40 rfl (by decide) hw.1 dX7_swap_74 (fun Ar_19 H locs eAr_19 P => ?_)
        replace hw := hw.2
        replace hw := hw Ar_19 eAr_19
        refine lv_aload_n hx hb dX7_swap_75 rfl (lv_at hl 3 rfl) ?_
        refine mg_now X P dX7_swap_76 ?_
        refine lv_iload_n hx hb dX7_swap_79 rfl (lv_at hl 6 rfl) ?_
        refine lv_iload hx hb dX7_swap_80 (lv_at hl 0 rfl) ?_
        refine m_iast X P 40 rfl (by decide) hw.1 dX7_swap_82 (fun Ar_20 H locs eAr_20 P => ?_)
        replace hw := hw.2
        replace hw := hw Ar_20 eAr_20
        refine lv_aload_n hx hb dX7_swap_83 rfl (lv_at hl 3 rfl) ?_
        refine lv_iload_n hx hb dX7_swap_84 rfl (lv_at hl 4 rfl) ?_
        refine cwm_goes X P hw ⟨Nat.le_of_ble_eq_true rfl, Nat.le_of_ble_eq_true rfl⟩ hl.1 (Nat.le_of_ble_eq_true rfl) dX7_swap_85 (fun F_22 Ar_23 H locs hw P => ?_)
        refine lv_aload_n hx hb dX7_swap_88 rfl (lv_at hl 3 rfl) ?_
        refine lv_iload_n hx hb dX7_swap_89 rfl (lv_at hl 4 rfl) ?_
        refine lv_iload_n hx hb dX7_swap_90 rfl (lv_at hl 5 rfl) ?_
        refine cwm_cost X P hw ⟨Nat.le_of_ble_eq_true rfl, Nat.le_of_ble_eq_true rfl⟩ hl.1 (Nat.le_of_ble_eq_true rfl) dX7_swap_91 (fun r_24 F_25 Ar_26 H locs hw P => ?_)
        refine lv_iload hx hb dX7_swap_94 (lv_at hl 2 rfl) ?_
        refine lv_icmp_ge (tgt := 110) hx hb dX7_swap_96 (by decide) (fun c_27 => ?_) (fun c_27 => ?_)
        · replace hw := hw.1 c_27
          refine lv_iconst (v := 0) hx hb dX7_swap_110 (by decide) ?_
          exact m_iret X P hr hw dX7_swap_111
        · replace hw := hw.2 c_27
          refine lv_aload_n hx hb dX7_swap_99 rfl (lv_at hl 3 rfl) ?_
          refine lv_iload_n hx hb dX7_swap_100 rfl (lv_at hl 4 rfl) ?_
          refine lv_iload_n hx hb dX7_swap_101 rfl (lv_at hl 6 rfl) ?_
          refine cwm_cost X P hw ⟨Nat.le_of_ble_eq_true rfl, Nat.le_of_ble_eq_true rfl⟩ hl.1 (Nat.le_of_ble_eq_true rfl) dX7_swap_102 (fun r_28 F_29 Ar_30 H locs hw P => ?_)
          refine lv_iload hx hb dX7_swap_105 (lv_at hl 1 rfl) ?_
          refine lv_icmp_lt (tgt := 112) hx hb dX7_swap_107 (by decide) (fun c_31 => ?_) (fun c_31 => ?_)
          · replace hw := hw.1 c_31
            refine lv_aload_n hx hb dX7_swap_112 rfl (lv_at hl 3 rfl) ?_
            refine mg_choice X P dX7_swap_113 ?_
            refine lv_bipush (v := 16) hx hb dX7_swap_116 (by decide) ?_
            refine lv_iload_n hx hb dX7_swap_118 rfl (lv_at hl 4 rfl) ?_
            refine lv_imul hx hb dX7_swap_119 ?_
            refine lv_iload_n hx hb dX7_swap_120 rfl (lv_at hl 5 rfl) ?_
            refine lv_iadd hx hb dX7_swap_121 ?_
            refine lv_aload_n hx hb dX7_swap_122 rfl (lv_at hl 3 rfl) ?_
            refine mg_now X P dX7_swap_123 ?_
            refine lv_iload_n hx hb dX7_swap_126 rfl (lv_at hl 5 rfl) ?_
            refine m_iald X P 40 rfl (by decide) hw.1 dX7_swap_127 ?_
            replace hw := hw.2
            refine m_iast X P 11 rfl (by decide) hw.1 dX7_swap_128 (fun Ar_32 H locs eAr_32 P => ?_)
            replace hw := hw.2
            replace hw := hw Ar_32 eAr_32
            refine lv_aload_n hx hb dX7_swap_129 rfl (lv_at hl 3 rfl) ?_
            refine mg_choice X P dX7_swap_130 ?_
            refine lv_bipush (v := 16) hx hb dX7_swap_133 (by decide) ?_
            refine lv_iload_n hx hb dX7_swap_135 rfl (lv_at hl 4 rfl) ?_
            refine lv_imul hx hb dX7_swap_136 ?_
            refine lv_iload_n hx hb dX7_swap_137 rfl (lv_at hl 6 rfl) ?_
            refine lv_iadd hx hb dX7_swap_138 ?_
            refine lv_aload_n hx hb dX7_swap_139 rfl (lv_at hl 3 rfl) ?_
            refine mg_now X P dX7_swap_140 ?_
            refine lv_iload_n hx hb dX7_swap_143 rfl (lv_at hl 6 rfl) ?_
            refine m_iald X P 40 rfl (by decide) hw.1 dX7_swap_144 ?_
            replace hw := hw.2
            refine m_iast X P 11 rfl (by decide) hw.1 dX7_swap_145 (fun Ar_33 H locs eAr_33 P => ?_)
            replace hw := hw.2
            replace hw := hw Ar_33 eAr_33
            refine lv_iconst (v := 1) hx hb dX7_swap_146 (by decide) ?_
            exact m_iret X P hr hw dX7_swap_147
          · replace hw := hw.2 c_31
            refine lv_iconst (v := 0) hx hb dX7_swap_110 (by decide) ?_
            exact m_iret X P hr hw dX7_swap_111
      · replace hw := hw.2 c_5
        refine lv_bipush (v := (-7)) hx hb dX7_swap_26 (by decide) ?_
        exact m_iret X P hr hw dX7_swap_28
    · replace hw := hw.2 c_4
      refine lv_bipush (v := (-5)) hx hb dX7_swap_18 (by decide) ?_
      exact m_iret X P hr hw dX7_swap_20
-- costWith
def wm_costWith (F : tF) (Ar : tA) (a1 : Int32) (a2 : Int32) (a3 : Int32) (a4 : Int32) (Q : Int64 → tF → tA → Prop) : Prop :=
  vp_in ((24 * a2) + a3) 48 ∧ ∀ x5_1 : Int32, x5_1 = (Ar 0 ((24 * a2) + a3).toNatClampNeg) → vp_in ((24 * a2) + a3) 48 ∧ ∀ Ar_2 : tA, Ar_2 = aset Ar 0 ((24 * a2) + a3).toNatClampNeg a4 → wm_costNow F Ar_2 a1 (fun r_3 F_4 Ar_5 => vp_in ((24 * a2) + a3) 48 ∧ ∀ Ar_6 : tA, Ar_6 = aset Ar_5 0 ((24 * a2) + a3).toNatClampNeg x5_1 → Q r_3 F_4 Ar_6)
set_option maxHeartbeats 4000000 in
theorem twm_costWith (l : Launch) (D : va_G) (cl : List vw_C) (ci : Nat) (dA dL : ClassId) (ad : Nat → Nat) (F : tF) (Ar : tA) (a1 : Int32) (a2 : Int32) (a3 : Int32) (a4 : Int32) (Q : Int64 → tF → tA → Prop) (hw : wm_costWith F Ar a1 a2 a3 a4 Q) : Met l yX7_costWith (ws_ yX7_costWith cX7_costWith 8 (some .long)) ({ frames := 5, cells := 0, slots := 0, locals := 113 }) (mPc D cl ci dA dL ad F Ar [.int a1, .int a2, .int a3, .int a4]) (mQl D cl ci dA dL ad Q) 0 0 (mReg ad) := by
  refine m_entry (by decide) rfl (Nat.le_of_ble_eq_true rfl) ?_
  intro p e s m below meth c ls X hr P hl
  obtain ⟨hx, hb, hml, hown, hts, -, -, hlk⟩ := id X
  have S : CallFix p m c _ _ s _ lw_all RX7 := ⟨hx, hb, hml, hown, hts⟩
  have hl : lv_has ls 8 [(0, .ref (ad 0)), (1, .int a1), (2, .int a2), (3, .int a3), (4, .int a4)] := hl
  refine lv_aload_n hx hb dX7_costWith_0 rfl (lv_at hl 0 rfl) ?_
  refine mg_rate X P dX7_costWith_1 ?_
  refine lv_bipush (v := 24) hx hb dX7_costWith_4 (by decide) ?_
  refine lv_iload_n hx hb dX7_costWith_6 rfl (lv_at hl 2 rfl) ?_
  refine lv_imul hx hb dX7_costWith_7 ?_
  refine lv_iload_n hx hb dX7_costWith_8 rfl (lv_at hl 3 rfl) ?_
  refine lv_iadd hx hb dX7_costWith_9 ?_
  refine m_iald X P 0 rfl (by decide) hw.1 dX7_costWith_10 ?_
  replace hw := hw.2
  refine lv_topi (fun x5_1 ex5_1 => ?_)
  replace hw := hw x5_1 ex5_1
  refine lv_istore (lv' := [(5, .int x5_1), (0, .ref (ad 0)), (1, .int a1), (2, .int a2), (3, .int a3), (4, .int a4)]) hx hb dX7_costWith_11 hl (by decide) rfl (fun ls hl => ?_)
  refine lv_aload_n hx hb dX7_costWith_13 rfl (lv_at hl 1 rfl) ?_
  refine mg_rate X P dX7_costWith_14 ?_
  refine lv_bipush (v := 24) hx hb dX7_costWith_17 (by decide) ?_
  refine lv_iload_n hx hb dX7_costWith_19 rfl (lv_at hl 3 rfl) ?_
  refine lv_imul hx hb dX7_costWith_20 ?_
  refine lv_iload_n hx hb dX7_costWith_21 rfl (lv_at hl 4 rfl) ?_
  refine lv_iadd hx hb dX7_costWith_22 ?_
  refine lv_iload hx hb dX7_costWith_23 (lv_at hl 5 rfl) ?_
  refine m_iast X P 0 rfl (by decide) hw.1 dX7_costWith_25 (fun Ar_2 H locs eAr_2 P => ?_)
  replace hw := hw.2
  replace hw := hw Ar_2 eAr_2
  refine lv_aload_n hx hb dX7_costWith_26 rfl (lv_at hl 1 rfl) ?_
  refine lv_iload_n hx hb dX7_costWith_27 rfl (lv_at hl 2 rfl) ?_
  refine cwm_costNow X P hw ⟨Nat.le_of_ble_eq_true rfl, Nat.le_of_ble_eq_true rfl⟩ hl.1 (Nat.le_of_ble_eq_true rfl) dX7_costWith_28 (fun r_3 F_4 Ar_5 H locs hw P => ?_)
  refine lv_lstore (lv' := [(6, .long r_3), (5, .int x5_1), (0, .ref (ad 0)), (1, .int a1), (2, .int a2), (3, .int a3), (4, .int a4)]) hx hb dX7_costWith_31 hl (by decide) rfl (fun ls hl => ?_)
  refine lv_aload_n hx hb dX7_costWith_33 rfl (lv_at hl 2 rfl) ?_
  refine mg_rate X P dX7_costWith_34 ?_
  refine lv_bipush (v := 24) hx hb dX7_costWith_37 (by decide) ?_
  refine lv_iload_n hx hb dX7_costWith_39 rfl (lv_at hl 4 rfl) ?_
  refine lv_imul hx hb dX7_costWith_40 ?_
  refine lv_iload_n hx hb dX7_costWith_41 rfl (lv_at hl 5 rfl) ?_
  refine lv_iadd hx hb dX7_costWith_42 ?_
  refine lv_iload hx hb dX7_costWith_43 (lv_at hl 1 rfl) ?_
  refine m_iast X P 0 rfl (by decide) hw.1 dX7_costWith_45 (fun Ar_6 H locs eAr_6 P => ?_)
  replace hw := hw.2
  replace hw := hw Ar_6 eAr_6
  refine lv_lload hx hb dX7_costWith_46 (lv_at hl 0 rfl) ?_
  exact m_lret X P hr hw dX7_costWith_48
theorem cwm_costWith {Q : Int64 → tF → tA → Prop} {a1 : Int32} {a2 : Int32} {a3 : Int32} {a4 : Int32} {Z : State → Prop} {H : Heap} {locs : List Loc} {F : tF} {Ar : tA} (X : mCx p s m args meth c cc nL D cl ci dA dL) (P : mP D cl (mReg ad) ci dA dL ad s.heap F Ar H locs) (hw : wm_costWith F Ar a1 a2 a3 a4 Q) (hR : 5 + 1 ≤ R.frames ∧ 8 + (8 + 11) + 113 ≤ R.locals) (hls : ls.size = nL) (hst : (rest.map fun v => v.category).sum ≤ 8) (hdg : decode cc pc = .ok (.invokevirtual 287, 3)) (kk : ∀ (r : Int64) (F1 : tF) (A1 : tA) (H1 : Heap) (locs1 : List Loc), Q r F1 A1 → mP D cl (mReg ad) ci dA dL ad s.heap F1 A1 H1 locs1 → W p l e R s m args below meth c H1 locs1 0 0 Z (F0 m (pc + 3) ls (.long r :: rest))) : W p l e R s m args below meth c H locs 0 0 Z (F0 m pc ls (.int a4 :: .int a3 :: .int a2 :: .int a1 :: .ref (ad 0) :: rest)) := by
  obtain ⟨hx, hb, hml, hown, hts, hK, hc, hlk⟩ := X
  exact va_calll (m_runV (as := [.int a1, .int a2, .int a3, .int a4]) hx hb hml hown hts hK hc P.1 P.2.1 (twm_costWith l D cl ci dA dL ad F Ar a1 a2 a3 a4 Q hw) (cwV 4 hts (lw_V q1697 q1699 qs61 q88 q1700) rfl rfl rfl (by decide +kernel) hR) rfl hls hst hdg ⟨Nat.zero_le _, Nat.zero_le _⟩) P.2.2 (fun q _ h => h) (fun q h => h) (fun r u t H1 locs1 ht hvm hp hB _ _ hS => kk r u.1 u.2 H1 locs1 hp ⟨by rw [← ht]; exact hB, P.2.1.to (fun k h => mM_dom.mpr (mM_dom.mp h)), hS⟩)
-- beside
def wm_beside (F : tF) (Ar : tA) (a1 : Int32) (a2 : Int32) (a3 : Int32) (a4 : Int32) (Q : Int64 → tF → tA → Prop) : Prop :=
  wm_isWay F Ar a1 (fun r_1 => ((r_1 = 0 → Q (-4611686018427387904) F Ar) ∧ (¬ r_1 = 0 → wm_isGate a2 a3 (fun r_3 => ((r_3 = 0 → Q (-4611686018427387904) F Ar) ∧ (¬ r_3 = 0 → wm_in a4 0 9 (fun r_5 => ((r_5 = 0 → Q (-4611686018427387904) F Ar) ∧ (¬ r_5 = 0 → wm_costWith F Ar a1 a2 a3 a4 (fun r_7 F_8 Ar_9 => wm_costNow F_8 Ar_9 a1 (fun r_10 F_11 Ar_12 => Q (r_7 - r_10) F_11 Ar_12)))))))))))
set_option maxHeartbeats 4000000 in
theorem twm_beside (l : Launch) (D : va_G) (cl : List vw_C) (ci : Nat) (dA dL : ClassId) (ad : Nat → Nat) (F : tF) (Ar : tA) (a1 : Int32) (a2 : Int32) (a3 : Int32) (a4 : Int32) (Q : Int64 → tF → tA → Prop) (hw : wm_beside F Ar a1 a2 a3 a4 Q) : Met l yX7_beside (ws_ yX7_beside cX7_beside 5 (some .long)) ({ frames := 6, cells := 0, slots := 0, locals := 140 }) (mPc D cl ci dA dL ad F Ar [.int a1, .int a2, .int a3, .int a4]) (mQl D cl ci dA dL ad Q) 0 0 (mReg ad) := by
  refine m_entry (by decide) rfl (Nat.le_of_ble_eq_true rfl) ?_
  intro p e s m below meth c ls X hr P hl
  obtain ⟨hx, hb, hml, hown, hts, -, -, hlk⟩ := id X
  have S : CallFix p m c _ _ s _ lw_all RX7 := ⟨hx, hb, hml, hown, hts⟩
  have hl : lv_has ls 5 [(0, .ref (ad 0)), (1, .int a1), (2, .int a2), (3, .int a3), (4, .int a4)] := hl
  refine lv_aload_n hx hb dX7_beside_0 rfl (lv_at hl 0 rfl) ?_
  refine lv_iload_n hx hb dX7_beside_1 rfl (lv_at hl 1 rfl) ?_
  refine cwm_isWay X P hw ⟨Nat.le_of_ble_eq_true rfl, Nat.le_of_ble_eq_true rfl⟩ hl.1 (Nat.le_of_ble_eq_true rfl) dX7_beside_2 (fun r_1 hw => ?_)
  refine lv_if_eq (tgt := 45) hx hb dX7_beside_5 (by decide) (fun c_2 => ?_) (fun c_2 => ?_)
  · replace hw := hw.1 c_2
    refine lv_ldc2 (v := (-4611686018427387904)) hx hb hown (hts _ q1656) dX7_beside_45 ?_
    exact m_lret X P hr hw dX7_beside_48
  · replace hw := hw.2 c_2
    refine lv_iload_n hx hb dX7_beside_8 rfl (lv_at hl 2 rfl) ?_
    refine lv_iload_n hx hb dX7_beside_9 rfl (lv_at hl 3 rfl) ?_
    refine cwm_isGate S hw ⟨Nat.le_of_ble_eq_true rfl, Nat.le_of_ble_eq_true rfl⟩ hl.1 (Nat.le_of_ble_eq_true rfl) dX7_beside_10 (fun r_3 hw => ?_)
    refine lv_if_eq (tgt := 45) hx hb dX7_beside_13 (by decide) (fun c_4 => ?_) (fun c_4 => ?_)
    · replace hw := hw.1 c_4
      refine lv_ldc2 (v := (-4611686018427387904)) hx hb hown (hts _ q1656) dX7_beside_45 ?_
      exact m_lret X P hr hw dX7_beside_48
    · replace hw := hw.2 c_4
      refine lv_iload hx hb dX7_beside_16 (lv_at hl 4 rfl) ?_
      refine lv_iconst (v := 0) hx hb dX7_beside_18 (by decide) ?_
      refine lv_bipush (v := 9) hx hb dX7_beside_19 (by decide) ?_
      refine cwm_in S hw ⟨Nat.le_of_ble_eq_true rfl, Nat.le_of_ble_eq_true rfl⟩ hl.1 (Nat.le_of_ble_eq_true rfl) dX7_beside_21 (fun r_5 hw => ?_)
      refine lv_if_eq (tgt := 45) hx hb dX7_beside_24 (by decide) (fun c_6 => ?_) (fun c_6 => ?_)
      · replace hw := hw.1 c_6
        refine lv_ldc2 (v := (-4611686018427387904)) hx hb hown (hts _ q1656) dX7_beside_45 ?_
        exact m_lret X P hr hw dX7_beside_48
      · replace hw := hw.2 c_6
        refine lv_aload_n hx hb dX7_beside_27 rfl (lv_at hl 0 rfl) ?_
        refine lv_iload_n hx hb dX7_beside_28 rfl (lv_at hl 1 rfl) ?_
        refine lv_iload_n hx hb dX7_beside_29 rfl (lv_at hl 2 rfl) ?_
        refine lv_iload_n hx hb dX7_beside_30 rfl (lv_at hl 3 rfl) ?_
        refine lv_iload hx hb dX7_beside_31 (lv_at hl 4 rfl) ?_
        refine cwm_costWith X P hw ⟨Nat.le_of_ble_eq_true rfl, Nat.le_of_ble_eq_true rfl⟩ hl.1 (Nat.le_of_ble_eq_true rfl) dX7_beside_33 (fun r_7 F_8 Ar_9 H locs hw P => ?_)
        refine lv_aload_n hx hb dX7_beside_36 rfl (lv_at hl 0 rfl) ?_
        refine lv_iload_n hx hb dX7_beside_37 rfl (lv_at hl 1 rfl) ?_
        refine cwm_costNow X P hw ⟨Nat.le_of_ble_eq_true rfl, Nat.le_of_ble_eq_true rfl⟩ hl.1 (Nat.le_of_ble_eq_true rfl) dX7_beside_38 (fun r_10 F_11 Ar_12 H locs hw P => ?_)
        refine lv_lsub hx hb dX7_beside_41 ?_
        refine lv_goto (tgt := 48) hx hb dX7_beside_42 (by decide) ?_
        exact m_lret X P hr hw dX7_beside_48
-- lowest
def wm_lowest_L27 (y0_4 : Int64) (y2_4 : Int64) (y4_4 : Int32) (Kx52_4 : Int64 → Prop) (Q : Int64 → Prop) : Nat → Int64 → Int64 → Prop
  | 0, _, _ => False
  | f27 + 1, y5_4, y7_4 =>
    ((y7_4 = 0 → (Kx52_4 y5_4)) ∧ (¬ y7_4 = 0 → ¬ y7_4 = 0 ∧ ∀ x9_6 : Int64, x9_6 = (y5_4 - y5_4 / y7_4 * y7_4) → ((wm_lowest_L27 y0_4 y2_4 y4_4 Kx52_4 Q f27) y7_4 x9_6)))
set_option maxHeartbeats 4000000 in
theorem kwm_lowest_L27 {Q : Int64 → Prop} (X : sCx p s m args meth c cX7_lowest 11 RX7) (hr : meth.sig.returnType = (some .long)) (y0_4 : Int64) (y2_4 : Int64) (y4_4 : Int32) (Kx52_4 : Int64 → Prop) (hKx52_4 : ∀ (w5_ : Int64) (ls : Array Slot), lv_has ls 11 [(0, .long y0_4), (2, .long y2_4), (4, .int y4_4), (5, .long w5_)] → Kx52_4 w5_ → W p l e ({ frames := 0, cells := 0, slots := 0, locals := 0 }) s m args below meth c s.heap [] 0 0 (MQ below (vp_Sl Q) args s 0 0 (fun _ => False)) (F0 m 52 ls [])) : ∀ (n : Nat) (y5_4 : Int64) (y7_4 : Int64) (ls : Array Slot), lv_has ls 11 [(0, .long y0_4), (2, .long y2_4), (4, .int y4_4), (5, .long y5_4), (7, .long y7_4)] → wm_lowest_L27 y0_4 y2_4 y4_4 Kx52_4 Q n y5_4 y7_4 → W p l e ({ frames := 0, cells := 0, slots := 0, locals := 0 }) s m args below meth c s.heap [] 0 0 (MQ below (vp_Sl Q) args s 0 0 (fun _ => False)) (F0 m 27 ls []) := by
  obtain ⟨hx, hb, hml, hown, hts, hlk⟩ := id X
  have S : CallFix p m c _ _ s args lw_all RX7 := ⟨hx, hb, hml, hown, hts⟩
  intro n
  induction n with
  | zero =>
    intro y5_4 y7_4 ls hl hw
    exact hw.elim
  | succ n ih =>
    intro y5_4 y7_4 ls hl hw
    have hKh27_4 := ih
    refine lv_lload hx hb dX7_lowest_27 (lv_at hl 4 rfl) ?_
    refine lv_lconst (v := 0) hx hb dX7_lowest_29 (by decide) ?_
    refine lc_eq (tgt := 52) hx hb dX7_lowest_30 dX7_lowest_31 (by decide) (fun c_5 => ?_) (fun c_5 => ?_)
    · replace hw := hw.1 c_5
      exact hKx52_4 _ _ (lv_sub hl [0, 1, 2, 3] rfl) hw
    · replace hw := hw.2 c_5
      refine lv_lload hx hb dX7_lowest_34 (lv_at hl 3 rfl) ?_
      refine lv_lload hx hb dX7_lowest_36 (lv_at hl 4 rfl) ?_
      refine lv_lrem hx hb dX7_lowest_38 hw.1 ?_
      replace hw := hw.2
      refine lv_topl (fun x9_6 ex9_6 => ?_)
      replace hw := hw x9_6 ex9_6
      refine lv_lstore (lv' := [(9, .long x9_6), (0, .long y0_4), (2, .long y2_4), (4, .int y4_4), (5, .long y5_4), (7, .long y7_4)]) hx hb dX7_lowest_39 hl (by decide) rfl (fun ls hl => ?_)
      refine lv_lload hx hb dX7_lowest_41 (lv_at hl 5 rfl) ?_
      refine lv_lstore (lv' := [(5, .long y7_4), (9, .long x9_6), (0, .long y0_4), (2, .long y2_4), (4, .int y4_4), (7, .long y7_4)]) hx hb dX7_lowest_43 hl (by decide) rfl (fun ls hl => ?_)
      refine lv_lload hx hb dX7_lowest_45 (lv_at hl 1 rfl) ?_
      refine lv_lstore (lv' := [(7, .long x9_6), (5, .long y7_4), (9, .long x9_6), (0, .long y0_4), (2, .long y2_4), (4, .int y4_4)]) hx hb dX7_lowest_47 hl (by decide) rfl (fun ls hl => ?_)
      refine lv_goto (tgt := 27) hx hb dX7_lowest_49 (by decide) ?_
      exact hKh27_4 _ _ _ (lv_sub hl [3, 4, 5, 1, 0] rfl) hw
def wm_lowest_J62 (y5_9 : Int64) (z0_9 : Int64) (Q : Int64 → Prop) : Prop :=
  ¬ y5_9 = 0 ∧ Q (z0_9 / y5_9)
set_option maxHeartbeats 4000000 in
theorem kwm_lowest_J62 {Q : Int64 → Prop} (X : sCx p s m args meth c cX7_lowest 11 RX7) (hr : meth.sig.returnType = (some .long)) (y5_9 : Int64) (z0_9 : Int64) {ls : Array Slot} (hl : lv_has ls 11 [(5, .long y5_9)]) (hw : wm_lowest_J62 y5_9 z0_9 Q) : W p l e ({ frames := 0, cells := 0, slots := 0, locals := 0 }) s m args below meth c s.heap [] 0 0 (MQ below (vp_Sl Q) args s 0 0 (fun _ => False)) (F0 m 62 ls [.long z0_9]) := by
  obtain ⟨hx, hb, hml, hown, hts, hlk⟩ := id X
  have S : CallFix p m c _ _ s args lw_all RX7 := ⟨hx, hb, hml, hown, hts⟩
  refine lv_lload hx hb dX7_lowest_62 (lv_at hl 0 rfl) ?_
  refine lv_ldiv hx hb dX7_lowest_64 hw.1 ?_
  replace hw := hw.2
  exact r_lret hx hb hlk hr hw dX7_lowest_65
def wm_lowest_J22 (y0_3 : Int64) (y2_3 : Int64) (y4_3 : Int32) (z0_3 : Int64) (Q : Int64 → Prop) : Prop :=
  (∃ n27, wm_lowest_L27 y0_3 y2_3 y4_3 (fun (x5_7 : Int64) => ((¬ y4_3 = 0 → (wm_lowest_J62 x5_7 y2_3 Q)) ∧ (y4_3 = 0 → (wm_lowest_J62 x5_7 y0_3 Q)))) Q n27 z0_3 y2_3)
set_option maxHeartbeats 4000000 in
theorem kwm_lowest_J22 {Q : Int64 → Prop} (X : sCx p s m args meth c cX7_lowest 11 RX7) (hr : meth.sig.returnType = (some .long)) (y0_3 : Int64) (y2_3 : Int64) (y4_3 : Int32) (z0_3 : Int64) {ls : Array Slot} (hl : lv_has ls 11 [(0, .long y0_3), (2, .long y2_3), (4, .int y4_3)]) (hw : wm_lowest_J22 y0_3 y2_3 y4_3 z0_3 Q) : W p l e ({ frames := 0, cells := 0, slots := 0, locals := 0 }) s m args below meth c s.heap [] 0 0 (MQ below (vp_Sl Q) args s 0 0 (fun _ => False)) (F0 m 22 ls [.long z0_3]) := by
  obtain ⟨hx, hb, hml, hown, hts, hlk⟩ := id X
  have S : CallFix p m c _ _ s args lw_all RX7 := ⟨hx, hb, hml, hown, hts⟩
  refine lv_lstore (lv' := [(5, .long z0_3), (0, .long y0_3), (2, .long y2_3), (4, .int y4_3)]) hx hb dX7_lowest_22 hl (by decide) rfl (fun ls hl => ?_)
  refine lv_lload_n hx hb dX7_lowest_24 rfl (lv_at hl 2 rfl) ?_
  refine lv_lstore (lv' := [(7, .long y2_3), (5, .long z0_3), (0, .long y0_3), (2, .long y2_3), (4, .int y4_3)]) hx hb dX7_lowest_25 hl (by decide) rfl (fun ls hl => ?_)
  obtain ⟨n_10, hw⟩ := hw
  refine kwm_lowest_L27 X hr _ _ _ _   ?_ n_10 _ _ _ (lv_sub hl [2, 3, 4, 1, 0] rfl) hw
  · intro x5_7 ls hl hw
    refine lv_iload hx hb dX7_lowest_52 (lv_at hl 2 rfl) ?_
    refine lv_if_ne (tgt := 61) hx hb dX7_lowest_54 (by decide) (fun c_8 => ?_) (fun c_8 => ?_)
    · replace hw := hw.1 c_8
      refine lv_lload_n hx hb dX7_lowest_61 rfl (lv_at hl 1 rfl) ?_
      exact kwm_lowest_J62 X hr _ _  (lv_sub hl [3] rfl) hw
    · replace hw := hw.2 c_8
      refine lv_lload_n hx hb dX7_lowest_57 rfl (lv_at hl 0 rfl) ?_
      refine lv_goto (tgt := 62) hx hb dX7_lowest_58 (by decide) ?_
      exact kwm_lowest_J62 X hr _ _  (lv_sub hl [3] rfl) hw
def wm_lowest (a1 : Int64) (a2 : Int64) (a3 : Int32) (Q : Int64 → Prop) : Prop :=
  ((¬ a1 = 0 → (((0 : Int64) ≤ a1 → (wm_lowest_J22 a1 a2 a3 a1 Q)) ∧ (¬ (0 : Int64) ≤ a1 → (wm_lowest_J22 a1 a2 a3 (-a1) Q)))) ∧ (a1 = 0 → Q (a3.toInt64)))
set_option maxHeartbeats 4000000 in
theorem twm_lowest (l : Launch) (a1 : Int64) (a2 : Int64) (a3 : Int32) (Q : Int64 → Prop) (hw : wm_lowest a1 a2 a3 Q) : Met l yX7_lowest (ws_ yX7_lowest cX7_lowest 11 (some .long)) ({ frames := 0, cells := 0, slots := 0, locals := 0 }) (va_Pc [.long a1, .long a2, .int a3] (fun _ => True)) (vp_Sl Q) 0 0 (fun _ => False) := by
  refine s_entry (by decide) (Nat.le_of_ble_eq_true rfl) ?_
  intro p e s m below meth c ls hx hb hml hown hts hlk hr hl
  have hown : s.vm.findClass RX7 = some m.cls := hown
  have X : sCx p s m _ meth c cX7_lowest 11 RX7 := ⟨hx, hb, hml, hown, hts, hlk⟩
  have S : CallFix p m c _ _ s _ lw_all RX7 := ⟨hx, hb, hml, hown, hts⟩
  have hl : lv_has ls 11 [(0, .long a1), (2, .long a2), (4, .int a3)] := hl
  refine lv_lload_n hx hb dX7_lowest_0 rfl (lv_at hl 0 rfl) ?_
  refine lv_lconst (v := 0) hx hb dX7_lowest_1 (by decide) ?_
  refine lc_ne (tgt := 10) hx hb dX7_lowest_2 dX7_lowest_3 (by decide) (fun c_1 => ?_) (fun c_1 => ?_)
  · replace hw := hw.1 c_1
    refine lv_lload_n hx hb dX7_lowest_10 rfl (lv_at hl 0 rfl) ?_
    refine lv_lconst (v := 0) hx hb dX7_lowest_11 (by decide) ?_
    refine lc_ge (tgt := 21) hx hb dX7_lowest_12 dX7_lowest_13 (by decide) (fun c_2 => ?_) (fun c_2 => ?_)
    · replace hw := hw.1 c_2
      refine lv_lload_n hx hb dX7_lowest_21 rfl (lv_at hl 0 rfl) ?_
      exact kwm_lowest_J22 X hr _ _ _ _  (lv_sub hl [0, 1, 2] rfl) hw
    · replace hw := hw.2 c_2
      refine lv_lload_n hx hb dX7_lowest_16 rfl (lv_at hl 0 rfl) ?_
      refine lv_lneg hx hb dX7_lowest_17 ?_
      refine lv_goto (tgt := 22) hx hb dX7_lowest_18 (by decide) ?_
      exact kwm_lowest_J22 X hr _ _ _ _  (lv_sub hl [0, 1, 2] rfl) hw
  · replace hw := hw.2 c_1
    refine lv_iload hx hb dX7_lowest_6 (lv_at hl 2 rfl) ?_
    refine lv_i2l hx hb dX7_lowest_8 rfl ?_
    exact r_lret hx hb hlk hr hw dX7_lowest_9
theorem cwm_lowest {Q : Int64 → Prop} {a1 : Int64} {a2 : Int64} {a3 : Int32} {Z : State → Prop} {H : Heap} {locs : List Loc} (S : CallFix p m c cc nL s args lw_all RX7) (hw : wm_lowest a1 a2 a3 Q) (hR : 0 + 1 ≤ R.frames ∧ 8 + (11 + 11) + 0 ≤ R.locals) (hls : ls.size = nL) (hst : (rest.map fun v => v.category).sum ≤ 8) (hdg : decode cc pc = .ok (.invokestatic 293, 3)) (kk : ∀ r, Q r → W p l e R s m args below meth c H locs 0 0 Z (F0 m (pc + 3) ls (.long r :: rest))) : W p l e R s m args below meth c H locs 0 0 Z (F0 m pc ls (.int a3 :: .long a2 :: .long a1 :: rest)) :=
  vp_callSl (s_runR (as := [.long a1, .long a2, .int a3]) S (twm_lowest l a1 a2 a3 Q hw) (va_cwS 3 S.2.2.2.2 (lw_S q1706 q1707 q88 q1708) rfl rfl rfl (by decide +kernel) hR) rfl hls hst hdg ⟨Nat.zero_le _, Nat.zero_le _⟩) kk
-- sticks
def wm_sticks (F : tF) (Ar : tA) (a1 : Int32) (a2 : Int32) (a3 : Int32) (a4 : Int32) (a5 : Int32) (Q : Int64 → tF → tA → Prop) : Prop :=
  wm_isWay F Ar a1 (fun r_1 => ((r_1 = 0 → Q (-4611686018427387904) F Ar) ∧ (¬ r_1 = 0 → wm_isGate a2 a3 (fun r_3 => ((r_3 = 0 → Q (-4611686018427387904) F Ar) ∧ (¬ r_3 = 0 → wm_in a4 0 10 (fun r_5 => ((r_5 = 0 → Q (-4611686018427387904) F Ar) ∧ (¬ r_5 = 0 → wm_in a5 0 1 (fun r_7 => ((¬ r_7 = 0 → wm_costWith F Ar a1 a2 a3 0 (fun r_9 F_10 Ar_11 => wm_costNow F_10 Ar_11 a1 (fun r_12 F_13 Ar_14 => wm_lowest (((a4.toInt64) * r_9) + (((10 - a4).toInt64) * r_12)) 10 a5 (fun r_15 => Q r_15 F_13 Ar_14)))) ∧ (r_7 = 0 → Q (-4611686018427387904) F Ar))))))))))))
set_option maxHeartbeats 4000000 in
theorem twm_sticks (l : Launch) (D : va_G) (cl : List vw_C) (ci : Nat) (dA dL : ClassId) (ad : Nat → Nat) (F : tF) (Ar : tA) (a1 : Int32) (a2 : Int32) (a3 : Int32) (a4 : Int32) (a5 : Int32) (Q : Int64 → tF → tA → Prop) (hw : wm_sticks F Ar a1 a2 a3 a4 a5 Q) : Met l yX7_sticks (ws_ yX7_sticks cX7_sticks 6 (some .long)) ({ frames := 6, cells := 0, slots := 0, locals := 140 }) (mPc D cl ci dA dL ad F Ar [.int a1, .int a2, .int a3, .int a4, .int a5]) (mQl D cl ci dA dL ad Q) 0 0 (mReg ad) := by
  refine m_entry (by decide) rfl (Nat.le_of_ble_eq_true rfl) ?_
  intro p e s m below meth c ls X hr P hl
  obtain ⟨hx, hb, hml, hown, hts, -, -, hlk⟩ := id X
  have S : CallFix p m c _ _ s _ lw_all RX7 := ⟨hx, hb, hml, hown, hts⟩
  have hl : lv_has ls 6 [(0, .ref (ad 0)), (1, .int a1), (2, .int a2), (3, .int a3), (4, .int a4), (5, .int a5)] := hl
  refine lv_aload_n hx hb dX7_sticks_0 rfl (lv_at hl 0 rfl) ?_
  refine lv_iload_n hx hb dX7_sticks_1 rfl (lv_at hl 1 rfl) ?_
  refine cwm_isWay X P hw ⟨Nat.le_of_ble_eq_true rfl, Nat.le_of_ble_eq_true rfl⟩ hl.1 (Nat.le_of_ble_eq_true rfl) dX7_sticks_2 (fun r_1 hw => ?_)
  refine lv_if_eq (tgt := 37) hx hb dX7_sticks_5 (by decide) (fun c_2 => ?_) (fun c_2 => ?_)
  · replace hw := hw.1 c_2
    refine lv_ldc2 (v := (-4611686018427387904)) hx hb hown (hts _ q1656) dX7_sticks_37 ?_
    exact m_lret X P hr hw dX7_sticks_40
  · replace hw := hw.2 c_2
    refine lv_iload_n hx hb dX7_sticks_8 rfl (lv_at hl 2 rfl) ?_
    refine lv_iload_n hx hb dX7_sticks_9 rfl (lv_at hl 3 rfl) ?_
    refine cwm_isGate S hw ⟨Nat.le_of_ble_eq_true rfl, Nat.le_of_ble_eq_true rfl⟩ hl.1 (Nat.le_of_ble_eq_true rfl) dX7_sticks_10 (fun r_3 hw => ?_)
    refine lv_if_eq (tgt := 37) hx hb dX7_sticks_13 (by decide) (fun c_4 => ?_) (fun c_4 => ?_)
    · replace hw := hw.1 c_4
      refine lv_ldc2 (v := (-4611686018427387904)) hx hb hown (hts _ q1656) dX7_sticks_37 ?_
      exact m_lret X P hr hw dX7_sticks_40
    · replace hw := hw.2 c_4
      refine lv_iload hx hb dX7_sticks_16 (lv_at hl 4 rfl) ?_
      refine lv_iconst (v := 0) hx hb dX7_sticks_18 (by decide) ?_
      refine lv_bipush (v := 10) hx hb dX7_sticks_19 (by decide) ?_
      refine cwm_in S hw ⟨Nat.le_of_ble_eq_true rfl, Nat.le_of_ble_eq_true rfl⟩ hl.1 (Nat.le_of_ble_eq_true rfl) dX7_sticks_21 (fun r_5 hw => ?_)
      refine lv_if_eq (tgt := 37) hx hb dX7_sticks_24 (by decide) (fun c_6 => ?_) (fun c_6 => ?_)
      · replace hw := hw.1 c_6
        refine lv_ldc2 (v := (-4611686018427387904)) hx hb hown (hts _ q1656) dX7_sticks_37 ?_
        exact m_lret X P hr hw dX7_sticks_40
      · replace hw := hw.2 c_6
        refine lv_iload hx hb dX7_sticks_27 (lv_at hl 5 rfl) ?_
        refine lv_iconst (v := 0) hx hb dX7_sticks_29 (by decide) ?_
        refine lv_iconst (v := 1) hx hb dX7_sticks_30 (by decide) ?_
        refine cwm_in S hw ⟨Nat.le_of_ble_eq_true rfl, Nat.le_of_ble_eq_true rfl⟩ hl.1 (Nat.le_of_ble_eq_true rfl) dX7_sticks_31 (fun r_7 hw => ?_)
        refine lv_if_ne (tgt := 41) hx hb dX7_sticks_34 (by decide) (fun c_8 => ?_) (fun c_8 => ?_)
        · replace hw := hw.1 c_8
          refine lv_iload hx hb dX7_sticks_41 (lv_at hl 4 rfl) ?_
          refine lv_i2l hx hb dX7_sticks_43 rfl ?_
          refine lv_aload_n hx hb dX7_sticks_44 rfl (lv_at hl 0 rfl) ?_
          refine lv_iload_n hx hb dX7_sticks_45 rfl (lv_at hl 1 rfl) ?_
          refine lv_iload_n hx hb dX7_sticks_46 rfl (lv_at hl 2 rfl) ?_
          refine lv_iload_n hx hb dX7_sticks_47 rfl (lv_at hl 3 rfl) ?_
          refine lv_iconst (v := 0) hx hb dX7_sticks_48 (by decide) ?_
          refine cwm_costWith X P hw ⟨Nat.le_of_ble_eq_true rfl, Nat.le_of_ble_eq_true rfl⟩ hl.1 (Nat.le_of_ble_eq_true rfl) dX7_sticks_49 (fun r_9 F_10 Ar_11 H locs hw P => ?_)
          refine lv_lmul hx hb dX7_sticks_52 ?_
          refine lv_bipush (v := 10) hx hb dX7_sticks_53 (by decide) ?_
          refine lv_iload hx hb dX7_sticks_55 (lv_at hl 4 rfl) ?_
          refine lv_isub hx hb dX7_sticks_57 ?_
          refine lv_i2l hx hb dX7_sticks_58 rfl ?_
          refine lv_aload_n hx hb dX7_sticks_59 rfl (lv_at hl 0 rfl) ?_
          refine lv_iload_n hx hb dX7_sticks_60 rfl (lv_at hl 1 rfl) ?_
          refine cwm_costNow X P hw ⟨Nat.le_of_ble_eq_true rfl, Nat.le_of_ble_eq_true rfl⟩ hl.1 (Nat.le_of_ble_eq_true rfl) dX7_sticks_61 (fun r_12 F_13 Ar_14 H locs hw P => ?_)
          refine lv_lmul hx hb dX7_sticks_64 ?_
          refine lv_ladd hx hb dX7_sticks_65 ?_
          refine lv_ldc2 (v := 10) hx hb hown (hts _ q1705) dX7_sticks_66 ?_
          refine lv_iload hx hb dX7_sticks_69 (lv_at hl 5 rfl) ?_
          refine cwm_lowest S hw ⟨Nat.le_of_ble_eq_true rfl, Nat.le_of_ble_eq_true rfl⟩ hl.1 (Nat.le_of_ble_eq_true rfl) dX7_sticks_71 (fun r_15 hw => ?_)
          exact m_lret X P hr hw dX7_sticks_74
        · replace hw := hw.2 c_8
          refine lv_ldc2 (v := (-4611686018427387904)) hx hb hown (hts _ q1656) dX7_sticks_37 ?_
          exact m_lret X P hr hw dX7_sticks_40
-- shift
def wm_shift_J83 (F : tF) (Ar : tA) (y1_11 : Int32) (y2_11 : Int32) (y3_11 : Int32) (z0_11 : Int32) (z1_11 : Int32) (Kh25_5 : tA → Int32 → Prop) (Q : Int64 → tF → tA → Prop) : Prop :=
  vp_in z1_11 4 ∧ ∀ Ar_12 : tA, Ar_12 = aset Ar 3 z1_11.toNatClampNeg z0_11 → (Kh25_5 Ar_12 (y3_11 + 1))
set_option maxHeartbeats 4000000 in
theorem kwm_shift_J83 {Q : Int64 → tF → tA → Prop} (X : mCx p s m args meth c cX7_shift 6 D cl ci dA dL) (hr : meth.sig.returnType = (some .long)) {F : tF} {Ar : tA} (y1_11 : Int32) (y2_11 : Int32) (y3_11 : Int32) (z0_11 : Int32) (z1_11 : Int32) (Kh25_5 : tA → Int32 → Prop) {H : Heap} {locs : List Loc} {ls : Array Slot} (P : mP D cl (mReg ad) ci dA dL ad s.heap F Ar H locs) (hl : lv_has ls 6 [(0, .ref (ad 0)), (1, .int y1_11), (2, .int y2_11), (3, .int y3_11)]) (hw : wm_shift_J83 F Ar y1_11 y2_11 y3_11 z0_11 z1_11 Kh25_5 Q) (hKh25_5 : ∀ (Ar_ : tA) (w3_ : Int32) (H : Heap) (locs : List Loc) (ls : Array Slot), mP D cl (mReg ad) ci dA dL ad s.heap F Ar_ H locs → lv_has ls 6 [(0, .ref (ad 0)), (1, .int y1_11), (2, .int y2_11), (3, .int w3_)] → Kh25_5 Ar_ w3_ → W p l e ({ frames := 5, cells := 0, slots := 0, locals := 113 }) s m args below meth c H locs 0 0 (MQ below (mQl D cl ci dA dL ad Q) args s 0 0 (mReg ad)) (F0 m 25 ls [])) : W p l e ({ frames := 5, cells := 0, slots := 0, locals := 113 }) s m args below meth c H locs 0 0 (MQ below (mQl D cl ci dA dL ad Q) args s 0 0 (mReg ad)) (F0 m 83 ls [.int z0_11, .int z1_11, .ref (ad 4)]) := by
  obtain ⟨hx, hb, hml, hown, hts, -, -, hlk⟩ := id X
  have S : CallFix p m c _ _ s args lw_all RX7 := ⟨hx, hb, hml, hown, hts⟩
  refine m_iast X P 3 rfl (by decide) hw.1 dX7_shift_83 (fun Ar_12 H locs eAr_12 P => ?_)
  replace hw := hw.2
  replace hw := hw Ar_12 eAr_12
  refine lv_iinc (v := (y3_11 + 1)) (lv' := [(3, .int (y3_11 + 1)), (0, .ref (ad 0)), (1, .int y1_11), (2, .int y2_11)]) hx hb dX7_shift_84 hl (k := 3) rfl rfl (by decide) rfl (fun ls hl => ?_)
  refine lv_goto (tgt := 25) hx hb dX7_shift_87 (by decide) ?_
  exact hKh25_5 _ _ _ _ _ P (lv_sub hl [1, 2, 3, 0] rfl) hw
def wm_shift_L25 (F : tF) (y1_5 : Int32) (y2_5 : Int32) (Kx90_5 : tA → Prop) (Q : Int64 → tF → tA → Prop) : Nat → tA → Int32 → Prop
  | 0, _, _ => False
  | f25 + 1, Ar, y3_5 =>
    (((F 2) ≤ y3_5 → (Kx90_5 Ar)) ∧ (¬ (F 2) ≤ y3_5 → vp_in y3_5 4 ∧ vp_in y3_5 4 ∧ ∀ Ar_7 : tA, Ar_7 = aset Ar 48 y3_5.toNatClampNeg (Ar 3 y3_5.toNatClampNeg) → vp_in y3_5 4 ∧ ∀ x4_8 : Int32, x4_8 = ((Ar_7 3 y3_5.toNatClampNeg) + y2_5) → (((0 : Int32) ≤ x4_8 → ((x4_8 ≤ 23 → (wm_shift_J83 F Ar_7 y1_5 y2_5 y3_5 x4_8 y3_5 (wm_shift_L25 F y1_5 y2_5 Kx90_5 Q f25) Q)) ∧ (¬ x4_8 ≤ 23 → (wm_shift_J83 F Ar_7 y1_5 y2_5 y3_5 23 y3_5 (wm_shift_L25 F y1_5 y2_5 Kx90_5 Q f25) Q)))) ∧ (¬ (0 : Int32) ≤ x4_8 → (wm_shift_J83 F Ar_7 y1_5 y2_5 y3_5 0 y3_5 (wm_shift_L25 F y1_5 y2_5 Kx90_5 Q f25) Q)))))
set_option maxHeartbeats 4000000 in
theorem kwm_shift_L25 {Q : Int64 → tF → tA → Prop} (X : mCx p s m args meth c cX7_shift 6 D cl ci dA dL) (hr : meth.sig.returnType = (some .long)) (F : tF) (y1_5 : Int32) (y2_5 : Int32) (Kx90_5 : tA → Prop) (hKx90_5 : ∀ (Ar_ : tA) (H : Heap) (locs : List Loc) (ls : Array Slot), mP D cl (mReg ad) ci dA dL ad s.heap F Ar_ H locs → lv_has ls 6 [(0, .ref (ad 0)), (1, .int y1_5)] → Kx90_5 Ar_ → W p l e ({ frames := 5, cells := 0, slots := 0, locals := 113 }) s m args below meth c H locs 0 0 (MQ below (mQl D cl ci dA dL ad Q) args s 0 0 (mReg ad)) (F0 m 90 ls [])) : ∀ (n : Nat) (Ar : tA) (y3_5 : Int32) (H : Heap) (locs : List Loc) (ls : Array Slot), mP D cl (mReg ad) ci dA dL ad s.heap F Ar H locs → lv_has ls 6 [(0, .ref (ad 0)), (1, .int y1_5), (2, .int y2_5), (3, .int y3_5)] → wm_shift_L25 F y1_5 y2_5 Kx90_5 Q n Ar y3_5 → W p l e ({ frames := 5, cells := 0, slots := 0, locals := 113 }) s m args below meth c H locs 0 0 (MQ below (mQl D cl ci dA dL ad Q) args s 0 0 (mReg ad)) (F0 m 25 ls []) := by
  obtain ⟨hx, hb, hml, hown, hts, -, -, hlk⟩ := id X
  have S : CallFix p m c _ _ s args lw_all RX7 := ⟨hx, hb, hml, hown, hts⟩
  intro n
  induction n with
  | zero =>
    intro Ar y3_5 H locs ls P hl hw
    exact hw.elim
  | succ n ih =>
    intro Ar y3_5 H locs ls P hl hw
    have hKh25_5 := ih
    refine lv_iload_n hx hb dX7_shift_25 rfl (lv_at hl 3 rfl) ?_
    refine lv_aload_n hx hb dX7_shift_26 rfl (lv_at hl 0 rfl) ?_
    refine mg_sorts X P dX7_shift_27 ?_
    refine lv_icmp_ge (tgt := 90) hx hb dX7_shift_30 (by decide) (fun c_6 => ?_) (fun c_6 => ?_)
    · replace hw := hw.1 c_6
      exact hKx90_5 _ _ _ _ P (lv_sub hl [0, 1] rfl) hw
    · replace hw := hw.2 c_6
      refine lv_aload_n hx hb dX7_shift_33 rfl (lv_at hl 0 rfl) ?_
      refine mg_keptWished X P dX7_shift_34 ?_
      refine lv_iload_n hx hb dX7_shift_37 rfl (lv_at hl 3 rfl) ?_
      refine lv_aload_n hx hb dX7_shift_38 rfl (lv_at hl 0 rfl) ?_
      refine mg_wished X P dX7_shift_39 ?_
      refine lv_iload_n hx hb dX7_shift_42 rfl (lv_at hl 3 rfl) ?_
      refine m_iald X P 3 rfl (by decide) hw.1 dX7_shift_43 ?_
      replace hw := hw.2
      refine m_iast X P 48 rfl (by decide) hw.1 dX7_shift_44 (fun Ar_7 H locs eAr_7 P => ?_)
      replace hw := hw.2
      replace hw := hw Ar_7 eAr_7
      refine lv_aload_n hx hb dX7_shift_45 rfl (lv_at hl 0 rfl) ?_
      refine mg_wished X P dX7_shift_46 ?_
      refine lv_iload_n hx hb dX7_shift_49 rfl (lv_at hl 3 rfl) ?_
      refine m_iald X P 3 rfl (by decide) hw.1 dX7_shift_50 ?_
      replace hw := hw.2
      refine lv_iload_n hx hb dX7_shift_51 rfl (lv_at hl 2 rfl) ?_
      refine lv_iadd hx hb dX7_shift_52 ?_
      refine lv_topi (fun x4_8 ex4_8 => ?_)
      replace hw := hw x4_8 ex4_8
      refine lv_istore (lv' := [(4, .int x4_8), (0, .ref (ad 0)), (1, .int y1_5), (2, .int y2_5), (3, .int y3_5)]) hx hb dX7_shift_53 hl (by decide) rfl (fun ls hl => ?_)
      refine lv_aload_n hx hb dX7_shift_55 rfl (lv_at hl 1 rfl) ?_
      refine mg_wished X P dX7_shift_56 ?_
      refine lv_iload_n hx hb dX7_shift_59 rfl (lv_at hl 4 rfl) ?_
      refine lv_iload hx hb dX7_shift_60 (lv_at hl 0 rfl) ?_
      refine lv_if_ge (tgt := 69) hx hb dX7_shift_62 (by decide) (fun c_9 => ?_) (fun c_9 => ?_)
      · replace hw := hw.1 c_9
        refine lv_iload hx hb dX7_shift_69 (lv_at hl 0 rfl) ?_
        refine lv_bipush (v := 23) hx hb dX7_shift_71 (by decide) ?_
        refine lv_icmp_le (tgt := 81) hx hb dX7_shift_73 (by decide) (fun c_10 => ?_) (fun c_10 => ?_)
        · replace hw := hw.1 c_10
          refine lv_iload hx hb dX7_shift_81 (lv_at hl 0 rfl) ?_
          exact kwm_shift_J83 X hr _ _ _ _ _ _ P (lv_sub hl [1, 2, 3, 4] rfl) hw hKh25_5
        · replace hw := hw.2 c_10
          refine lv_bipush (v := 23) hx hb dX7_shift_76 (by decide) ?_
          refine lv_goto (tgt := 83) hx hb dX7_shift_78 (by decide) ?_
          exact kwm_shift_J83 X hr _ _ _ _ _ _ P (lv_sub hl [1, 2, 3, 4] rfl) hw hKh25_5
      · replace hw := hw.2 c_9
        refine lv_iconst (v := 0) hx hb dX7_shift_65 (by decide) ?_
        refine lv_goto (tgt := 83) hx hb dX7_shift_66 (by decide) ?_
        exact kwm_shift_J83 X hr _ _ _ _ _ _ P (lv_sub hl [1, 2, 3, 4] rfl) hw hKh25_5
def wm_shift_L99 (F : tF) (y3_17 : Int64) (Kx128_17 : tA → Prop) (Q : Int64 → tF → tA → Prop) : Nat → tA → Int32 → Prop
  | 0, _, _ => False
  | f99 + 1, Ar, y5_17 =>
    (((F 2) ≤ y5_17 → (Kx128_17 Ar)) ∧ (¬ (F 2) ≤ y5_17 → vp_in y5_17 4 ∧ vp_in y5_17 4 ∧ ∀ Ar_19 : tA, Ar_19 = aset Ar 3 y5_17.toNatClampNeg (Ar 48 y5_17.toNatClampNeg) → ((wm_shift_L99 F y3_17 Kx128_17 Q f99) Ar_19 (y5_17 + 1))))
set_option maxHeartbeats 4000000 in
theorem kwm_shift_L99 {Q : Int64 → tF → tA → Prop} (X : mCx p s m args meth c cX7_shift 6 D cl ci dA dL) (hr : meth.sig.returnType = (some .long)) (F : tF) (y3_17 : Int64) (Kx128_17 : tA → Prop) (hKx128_17 : ∀ (Ar_ : tA) (H : Heap) (locs : List Loc) (ls : Array Slot), mP D cl (mReg ad) ci dA dL ad s.heap F Ar_ H locs → lv_has ls 6 [(0, .ref (ad 0)), (3, .long y3_17)] → Kx128_17 Ar_ → W p l e ({ frames := 5, cells := 0, slots := 0, locals := 113 }) s m args below meth c H locs 0 0 (MQ below (mQl D cl ci dA dL ad Q) args s 0 0 (mReg ad)) (F0 m 128 ls [])) : ∀ (n : Nat) (Ar : tA) (y5_17 : Int32) (H : Heap) (locs : List Loc) (ls : Array Slot), mP D cl (mReg ad) ci dA dL ad s.heap F Ar H locs → lv_has ls 6 [(0, .ref (ad 0)), (3, .long y3_17), (5, .int y5_17)] → wm_shift_L99 F y3_17 Kx128_17 Q n Ar y5_17 → W p l e ({ frames := 5, cells := 0, slots := 0, locals := 113 }) s m args below meth c H locs 0 0 (MQ below (mQl D cl ci dA dL ad Q) args s 0 0 (mReg ad)) (F0 m 99 ls []) := by
  obtain ⟨hx, hb, hml, hown, hts, -, -, hlk⟩ := id X
  have S : CallFix p m c _ _ s args lw_all RX7 := ⟨hx, hb, hml, hown, hts⟩
  intro n
  induction n with
  | zero =>
    intro Ar y5_17 H locs ls P hl hw
    exact hw.elim
  | succ n ih =>
    intro Ar y5_17 H locs ls P hl hw
    have hKh99_17 := ih
    refine lv_iload hx hb dX7_shift_99 (lv_at hl 2 rfl) ?_
    refine lv_aload_n hx hb dX7_shift_101 rfl (lv_at hl 0 rfl) ?_
    refine mg_sorts X P dX7_shift_102 ?_
    refine lv_icmp_ge (tgt := 128) hx hb dX7_shift_105 (by decide) (fun c_18 => ?_) (fun c_18 => ?_)
    · replace hw := hw.1 c_18
      exact hKx128_17 _ _ _ _ P (lv_sub hl [0, 1] rfl) hw
    · replace hw := hw.2 c_18
      refine lv_aload_n hx hb dX7_shift_108 rfl (lv_at hl 0 rfl) ?_
      refine mg_wished X P dX7_shift_109 ?_
      refine lv_iload hx hb dX7_shift_112 (lv_at hl 2 rfl) ?_
      refine lv_aload_n hx hb dX7_shift_114 rfl (lv_at hl 0 rfl) ?_
      refine mg_keptWished X P dX7_shift_115 ?_
      refine lv_iload hx hb dX7_shift_118 (lv_at hl 2 rfl) ?_
      refine m_iald X P 48 rfl (by decide) hw.1 dX7_shift_120 ?_
      replace hw := hw.2
      refine m_iast X P 3 rfl (by decide) hw.1 dX7_shift_121 (fun Ar_19 H locs eAr_19 P => ?_)
      replace hw := hw.2
      replace hw := hw Ar_19 eAr_19
      refine lv_iinc (v := (y5_17 + 1)) (lv' := [(5, .int (y5_17 + 1)), (0, .ref (ad 0)), (3, .long y3_17)]) hx hb dX7_shift_122 hl (k := 2) rfl rfl (by decide) rfl (fun ls hl => ?_)
      refine lv_goto (tgt := 99) hx hb dX7_shift_125 (by decide) ?_
      exact hKh99_17 _ _ _ _ _ P (lv_sub hl [1, 2, 0] rfl) hw
def wm_shift (F : tF) (Ar : tA) (a1 : Int32) (a2 : Int32) (Q : Int64 → tF → tA → Prop) : Prop :=
  wm_isWay F Ar a1 (fun r_1 => ((r_1 = 0 → Q (-4611686018427387904) F Ar) ∧ (¬ r_1 = 0 → wm_in a2 (-23) 23 (fun r_3 => ((¬ r_3 = 0 → (∃ n25, wm_shift_L25 F a1 a2 (fun (Ar_13 : tA) => wm_costNow F Ar_13 a1 (fun r_14 F_15 Ar_16 => (∃ n99, wm_shift_L99 F_15 r_14 (fun (Ar_20 : tA) => Q r_14 F_15 Ar_20) Q n99 Ar_16 0))) Q n25 Ar 0)) ∧ (r_3 = 0 → Q (-4611686018427387904) F Ar))))))
set_option maxHeartbeats 4000000 in
theorem twm_shift (l : Launch) (D : va_G) (cl : List vw_C) (ci : Nat) (dA dL : ClassId) (ad : Nat → Nat) (F : tF) (Ar : tA) (a1 : Int32) (a2 : Int32) (Q : Int64 → tF → tA → Prop) (hw : wm_shift F Ar a1 a2 Q) : Met l yX7_shift (ws_ yX7_shift cX7_shift 6 (some .long)) ({ frames := 5, cells := 0, slots := 0, locals := 113 }) (mPc D cl ci dA dL ad F Ar [.int a1, .int a2]) (mQl D cl ci dA dL ad Q) 0 0 (mReg ad) := by
  refine m_entry (by decide) rfl (Nat.le_of_ble_eq_true rfl) ?_
  intro p e s m below meth c ls X hr P hl
  obtain ⟨hx, hb, hml, hown, hts, -, -, hlk⟩ := id X
  have S : CallFix p m c _ _ s _ lw_all RX7 := ⟨hx, hb, hml, hown, hts⟩
  have hl : lv_has ls 6 [(0, .ref (ad 0)), (1, .int a1), (2, .int a2)] := hl
  refine lv_aload_n hx hb dX7_shift_0 rfl (lv_at hl 0 rfl) ?_
  refine lv_iload_n hx hb dX7_shift_1 rfl (lv_at hl 1 rfl) ?_
  refine cwm_isWay X P hw ⟨Nat.le_of_ble_eq_true rfl, Nat.le_of_ble_eq_true rfl⟩ hl.1 (Nat.le_of_ble_eq_true rfl) dX7_shift_2 (fun r_1 hw => ?_)
  refine lv_if_eq (tgt := 19) hx hb dX7_shift_5 (by decide) (fun c_2 => ?_) (fun c_2 => ?_)
  · replace hw := hw.1 c_2
    refine lv_ldc2 (v := (-4611686018427387904)) hx hb hown (hts _ q1656) dX7_shift_19 ?_
    exact m_lret X P hr hw dX7_shift_22
  · replace hw := hw.2 c_2
    refine lv_iload_n hx hb dX7_shift_8 rfl (lv_at hl 2 rfl) ?_
    refine lv_bipush (v := (-23)) hx hb dX7_shift_9 (by decide) ?_
    refine lv_bipush (v := 23) hx hb dX7_shift_11 (by decide) ?_
    refine cwm_in S hw ⟨Nat.le_of_ble_eq_true rfl, Nat.le_of_ble_eq_true rfl⟩ hl.1 (Nat.le_of_ble_eq_true rfl) dX7_shift_13 (fun r_3 hw => ?_)
    refine lv_if_ne (tgt := 23) hx hb dX7_shift_16 (by decide) (fun c_4 => ?_) (fun c_4 => ?_)
    · replace hw := hw.1 c_4
      refine lv_iconst (v := 0) hx hb dX7_shift_23 (by decide) ?_
      refine lv_istore_n (lv' := [(3, .int 0), (0, .ref (ad 0)), (1, .int a1), (2, .int a2)]) hx hb dX7_shift_24 rfl hl (by decide) rfl (fun ls hl => ?_)
      obtain ⟨n_22, hw⟩ := hw
      refine kwm_shift_L25 X hr _ _ _ _   ?_ n_22 _ _ _ _ _ P (lv_sub hl [1, 2, 3, 0] rfl) hw
      · intro Ar_13 H locs ls P hl hw
        refine lv_aload_n hx hb dX7_shift_90 rfl (lv_at hl 0 rfl) ?_
        refine lv_iload_n hx hb dX7_shift_91 rfl (lv_at hl 1 rfl) ?_
        refine cwm_costNow X P hw ⟨Nat.le_of_ble_eq_true rfl, Nat.le_of_ble_eq_true rfl⟩ hl.1 (Nat.le_of_ble_eq_true rfl) dX7_shift_92 (fun r_14 F_15 Ar_16 H locs hw P => ?_)
        refine lv_lstore_n (lv' := [(3, .long r_14), (0, .ref (ad 0)), (1, .int a1)]) hx hb dX7_shift_95 rfl hl (by decide) rfl (fun ls hl => ?_)
        refine lv_iconst (v := 0) hx hb dX7_shift_96 (by decide) ?_
        refine lv_istore (lv' := [(5, .int 0), (3, .long r_14), (0, .ref (ad 0)), (1, .int a1)]) hx hb dX7_shift_97 hl (by decide) rfl (fun ls hl => ?_)
        obtain ⟨n_21, hw⟩ := hw
        refine kwm_shift_L99 X hr _ _ _   ?_ n_21 _ _ _ _ _ P (lv_sub hl [2, 1, 0] rfl) hw
        · intro Ar_20 H locs ls P hl hw
          refine lv_lload_n hx hb dX7_shift_128 rfl (lv_at hl 1 rfl) ?_
          exact m_lret X P hr hw dX7_shift_129
    · replace hw := hw.2 c_4
      refine lv_ldc2 (v := (-4611686018427387904)) hx hb hown (hts _ q1656) dX7_shift_19 ?_
      exact m_lret X P hr hw dX7_shift_22
-- waited
def wm_waited_J62 (F : tF) (Ar : tA) (y1_8 : Int32) (y3_8 : Int32) (z0_8 : Int32) (z1_8 : Int32) (Kh9_4 : Int32 → Int32 → Prop) (Q : Int32 → tF → tA → Prop) : Prop :=
  ∀ x2_9 : Int32, x2_9 = (z1_8 + z0_8) → (Kh9_4 x2_9 (y3_8 + 1))
set_option maxHeartbeats 4000000 in
theorem kwm_waited_J62 {Q : Int32 → tF → tA → Prop} (X : mCx p s m args meth c cX7_waited 4 D cl ci dA dL) (hr : meth.sig.returnType = (some .int)) {F : tF} {Ar : tA} (y1_8 : Int32) (y3_8 : Int32) (z0_8 : Int32) (z1_8 : Int32) (Kh9_4 : Int32 → Int32 → Prop) {H : Heap} {locs : List Loc} {ls : Array Slot} (P : mP D cl (mReg ad) ci dA dL ad s.heap F Ar H locs) (hl : lv_has ls 4 [(0, .ref (ad 0)), (1, .int y1_8), (3, .int y3_8)]) (hw : wm_waited_J62 F Ar y1_8 y3_8 z0_8 z1_8 Kh9_4 Q) (hKh9_4 : ∀ (w2_ : Int32) (w3_ : Int32) (H : Heap) (locs : List Loc) (ls : Array Slot), mP D cl (mReg ad) ci dA dL ad s.heap F Ar H locs → lv_has ls 4 [(0, .ref (ad 0)), (1, .int y1_8), (2, .int w2_), (3, .int w3_)] → Kh9_4 w2_ w3_ → W p l e ({ frames := 3, cells := 0, slots := 0, locals := 73 }) s m args below meth c H locs 0 0 (MQ below (mQi D cl ci dA dL ad Q) args s 0 0 (mReg ad)) (F0 m 9 ls [])) : W p l e ({ frames := 3, cells := 0, slots := 0, locals := 73 }) s m args below meth c H locs 0 0 (MQ below (mQi D cl ci dA dL ad Q) args s 0 0 (mReg ad)) (F0 m 62 ls [.int z0_8, .int z1_8]) := by
  obtain ⟨hx, hb, hml, hown, hts, -, -, hlk⟩ := id X
  have S : CallFix p m c _ _ s args lw_all RX7 := ⟨hx, hb, hml, hown, hts⟩
  refine lv_iadd hx hb dX7_waited_62 ?_
  refine lv_topi (fun x2_9 ex2_9 => ?_)
  replace hw := hw x2_9 ex2_9
  refine lv_istore_n (lv' := [(2, .int x2_9), (0, .ref (ad 0)), (1, .int y1_8), (3, .int y3_8)]) hx hb dX7_waited_63 rfl hl (by decide) rfl (fun ls hl => ?_)
  refine lv_iinc (v := (y3_8 + 1)) (lv' := [(3, .int (y3_8 + 1)), (2, .int x2_9), (0, .ref (ad 0)), (1, .int y1_8)]) hx hb dX7_waited_64 hl (k := 3) rfl rfl (by decide) rfl (fun ls hl => ?_)
  refine lv_goto (tgt := 9) hx hb dX7_waited_67 (by decide) ?_
  exact hKh9_4 _ _ _ _ _ P (lv_sub hl [2, 3, 1, 0] rfl) hw
def wm_waited_L9 (F : tF) (Ar : tA) (y1_4 : Int32) (Q : Int32 → tF → tA → Prop) : Nat → Int32 → Int32 → Prop
  | 0, _, _ => False
  | f9 + 1, y2_4, y3_4 =>
    vp_in y1_4 8 ∧ (((Ar 10 y1_4.toNatClampNeg) ≤ y3_4 → Q y2_4 F Ar) ∧ (¬ (Ar 10 y1_4.toNatClampNeg) ≤ y3_4 → vp_in y3_4 16 ∧ ((¬ (Ar 41 y3_4.toNatClampNeg) = (-1) → vp_in y3_4 16 ∧ ((¬ (Ar 42 y3_4.toNatClampNeg) = (-1) → vp_in y3_4 16 ∧ vp_in y3_4 16 ∧ (wm_waited_J62 F Ar y1_4 y3_4 ((Ar 42 y3_4.toNatClampNeg) - (Ar 41 y3_4.toNatClampNeg)) y2_4 (wm_waited_L9 F Ar y1_4 Q f9) Q)) ∧ ((Ar 42 y3_4.toNatClampNeg) = (-1) → (wm_waited_J62 F Ar y1_4 y3_4 24 y2_4 (wm_waited_L9 F Ar y1_4 Q f9) Q)))) ∧ ((Ar 41 y3_4.toNatClampNeg) = (-1) → (wm_waited_J62 F Ar y1_4 y3_4 0 y2_4 (wm_waited_L9 F Ar y1_4 Q f9) Q)))))
set_option maxHeartbeats 4000000 in
theorem kwm_waited_L9 {Q : Int32 → tF → tA → Prop} (X : mCx p s m args meth c cX7_waited 4 D cl ci dA dL) (hr : meth.sig.returnType = (some .int)) (F : tF) (Ar : tA) (y1_4 : Int32) : ∀ (n : Nat) (y2_4 : Int32) (y3_4 : Int32) (H : Heap) (locs : List Loc) (ls : Array Slot), mP D cl (mReg ad) ci dA dL ad s.heap F Ar H locs → lv_has ls 4 [(0, .ref (ad 0)), (1, .int y1_4), (2, .int y2_4), (3, .int y3_4)] → wm_waited_L9 F Ar y1_4 Q n y2_4 y3_4 → W p l e ({ frames := 3, cells := 0, slots := 0, locals := 73 }) s m args below meth c H locs 0 0 (MQ below (mQi D cl ci dA dL ad Q) args s 0 0 (mReg ad)) (F0 m 9 ls []) := by
  obtain ⟨hx, hb, hml, hown, hts, -, -, hlk⟩ := id X
  have S : CallFix p m c _ _ s args lw_all RX7 := ⟨hx, hb, hml, hown, hts⟩
  intro n
  induction n with
  | zero =>
    intro y2_4 y3_4 H locs ls P hl hw
    exact hw.elim
  | succ n ih =>
    intro y2_4 y3_4 H locs ls P hl hw
    have hKh9_4 := ih
    refine lv_iload_n hx hb dX7_waited_9 rfl (lv_at hl 3 rfl) ?_
    refine lv_aload_n hx hb dX7_waited_10 rfl (lv_at hl 0 rfl) ?_
    refine mg_many X P dX7_waited_11 ?_
    refine lv_iload_n hx hb dX7_waited_14 rfl (lv_at hl 1 rfl) ?_
    refine m_iald X P 10 rfl (by decide) hw.1 dX7_waited_15 ?_
    replace hw := hw.2
    refine lv_icmp_ge (tgt := 70) hx hb dX7_waited_16 (by decide) (fun c_5 => ?_) (fun c_5 => ?_)
    · replace hw := hw.1 c_5
      refine lv_iload_n hx hb dX7_waited_70 rfl (lv_at hl 2 rfl) ?_
      exact m_iret X P hr hw dX7_waited_71
    · replace hw := hw.2 c_5
      refine lv_iload_n hx hb dX7_waited_19 rfl (lv_at hl 2 rfl) ?_
      refine lv_aload_n hx hb dX7_waited_20 rfl (lv_at hl 0 rfl) ?_
      refine mg_came X P dX7_waited_21 ?_
      refine lv_iload_n hx hb dX7_waited_24 rfl (lv_at hl 3 rfl) ?_
      refine m_iald X P 41 rfl (by decide) hw.1 dX7_waited_25 ?_
      replace hw := hw.2
      refine lv_iconst (v := (-1)) hx hb dX7_waited_26 (by decide) ?_
      refine lv_icmp_ne (tgt := 34) hx hb dX7_waited_27 (by decide) (fun c_6 => ?_) (fun c_6 => ?_)
      · replace hw := hw.1 c_6
        refine lv_aload_n hx hb dX7_waited_34 rfl (lv_at hl 0 rfl) ?_
        refine mg_passed X P dX7_waited_35 ?_
        refine lv_iload_n hx hb dX7_waited_38 rfl (lv_at hl 3 rfl) ?_
        refine m_iald X P 42 rfl (by decide) hw.1 dX7_waited_39 ?_
        replace hw := hw.2
        refine lv_iconst (v := (-1)) hx hb dX7_waited_40 (by decide) ?_
        refine lv_icmp_ne (tgt := 49) hx hb dX7_waited_41 (by decide) (fun c_7 => ?_) (fun c_7 => ?_)
        · replace hw := hw.1 c_7
          refine lv_aload_n hx hb dX7_waited_49 rfl (lv_at hl 0 rfl) ?_
          refine mg_passed X P dX7_waited_50 ?_
          refine lv_iload_n hx hb dX7_waited_53 rfl (lv_at hl 3 rfl) ?_
          refine m_iald X P 42 rfl (by decide) hw.1 dX7_waited_54 ?_
          replace hw := hw.2
          refine lv_aload_n hx hb dX7_waited_55 rfl (lv_at hl 0 rfl) ?_
          refine mg_came X P dX7_waited_56 ?_
          refine lv_iload_n hx hb dX7_waited_59 rfl (lv_at hl 3 rfl) ?_
          refine m_iald X P 41 rfl (by decide) hw.1 dX7_waited_60 ?_
          replace hw := hw.2
          refine lv_isub hx hb dX7_waited_61 ?_
          exact kwm_waited_J62 X hr _ _ _ _ _ P (lv_sub hl [0, 1, 3] rfl) hw hKh9_4
        · replace hw := hw.2 c_7
          refine lv_bipush (v := 24) hx hb dX7_waited_44 (by decide) ?_
          refine lv_goto (tgt := 62) hx hb dX7_waited_46 (by decide) ?_
          exact kwm_waited_J62 X hr _ _ _ _ _ P (lv_sub hl [0, 1, 3] rfl) hw hKh9_4
      · replace hw := hw.2 c_6
        refine lv_iconst (v := 0) hx hb dX7_waited_30 (by decide) ?_
        refine lv_goto (tgt := 62) hx hb dX7_waited_31 (by decide) ?_
        exact kwm_waited_J62 X hr _ _ _ _ _ P (lv_sub hl [0, 1, 3] rfl) hw hKh9_4
def wm_waited (F : tF) (Ar : tA) (a1 : Int32) (Q : Int32 → tF → tA → Prop) : Prop :=
  wm_goes F Ar a1 (fun F_2 Ar_3 => (∃ n9, wm_waited_L9 F_2 Ar_3 a1 Q n9 0 0))
set_option maxHeartbeats 4000000 in
theorem twm_waited (l : Launch) (D : va_G) (cl : List vw_C) (ci : Nat) (dA dL : ClassId) (ad : Nat → Nat) (F : tF) (Ar : tA) (a1 : Int32) (Q : Int32 → tF → tA → Prop) (hw : wm_waited F Ar a1 Q) : Met l yX7_waited (ws_ yX7_waited cX7_waited 4 (some .int)) ({ frames := 3, cells := 0, slots := 0, locals := 73 }) (mPc D cl ci dA dL ad F Ar [.int a1]) (mQi D cl ci dA dL ad Q) 0 0 (mReg ad) := by
  refine m_entry (by decide) rfl (Nat.le_of_ble_eq_true rfl) ?_
  intro p e s m below meth c ls X hr P hl
  obtain ⟨hx, hb, hml, hown, hts, -, -, hlk⟩ := id X
  have S : CallFix p m c _ _ s _ lw_all RX7 := ⟨hx, hb, hml, hown, hts⟩
  have hl : lv_has ls 4 [(0, .ref (ad 0)), (1, .int a1)] := hl
  refine lv_aload_n hx hb dX7_waited_0 rfl (lv_at hl 0 rfl) ?_
  refine lv_iload_n hx hb dX7_waited_1 rfl (lv_at hl 1 rfl) ?_
  refine cwm_goes X P hw ⟨Nat.le_of_ble_eq_true rfl, Nat.le_of_ble_eq_true rfl⟩ hl.1 (Nat.le_of_ble_eq_true rfl) dX7_waited_2 (fun F_2 Ar_3 H locs hw P => ?_)
  refine lv_iconst (v := 0) hx hb dX7_waited_5 (by decide) ?_
  refine lv_istore_n (lv' := [(2, .int 0), (0, .ref (ad 0)), (1, .int a1)]) hx hb dX7_waited_6 rfl hl (by decide) rfl (fun ls hl => ?_)
  refine lv_iconst (v := 0) hx hb dX7_waited_7 (by decide) ?_
  refine lv_istore_n (lv' := [(3, .int 0), (2, .int 0), (0, .ref (ad 0)), (1, .int a1)]) hx hb dX7_waited_8 rfl hl (by decide) rfl (fun ls hl => ?_)
  obtain ⟨n_10, hw⟩ := hw
  refine kwm_waited_L9 X hr _ _ _    n_10 _ _ _ _ _ P (lv_sub hl [2, 3, 1, 0] rfl) hw
theorem cwm_waited {Q : Int32 → tF → tA → Prop} {a1 : Int32} {Z : State → Prop} {H : Heap} {locs : List Loc} {F : tF} {Ar : tA} (X : mCx p s m args meth c cc nL D cl ci dA dL) (P : mP D cl (mReg ad) ci dA dL ad s.heap F Ar H locs) (hw : wm_waited F Ar a1 Q) (hR : 3 + 1 ≤ R.frames ∧ 8 + (4 + 11) + 73 ≤ R.locals) (hls : ls.size = nL) (hst : (rest.map fun v => v.category).sum ≤ 8) (hdg : decode cc pc = .ok (.invokevirtual 297, 3)) (kk : ∀ (r : Int32) (F1 : tF) (A1 : tA) (H1 : Heap) (locs1 : List Loc), Q r F1 A1 → mP D cl (mReg ad) ci dA dL ad s.heap F1 A1 H1 locs1 → W p l e R s m args below meth c H1 locs1 0 0 Z (F0 m (pc + 3) ls (.int r :: rest))) : W p l e R s m args below meth c H locs 0 0 Z (F0 m pc ls (.int a1 :: .ref (ad 0) :: rest)) := by
  obtain ⟨hx, hb, hml, hown, hts, hK, hc, hlk⟩ := X
  exact va_calli (m_runV (as := [.int a1]) hx hb hml hown hts hK hc P.1 P.2.1 (twm_waited l D cl ci dA dL ad F Ar a1 Q hw) (cwV 1 hts (lw_V q1717 q1719 qs62 q88 q1720) rfl rfl rfl (by decide +kernel) hR) rfl hls hst hdg ⟨Nat.zero_le _, Nat.zero_le _⟩) P.2.2 (fun q _ h => h) (fun q h => h) (fun r u t H1 locs1 ht hvm hp hB _ _ hS => kk r u.1 u.2 H1 locs1 hp ⟨by rw [← ht]; exact hB, P.2.1.to (fun k h => mM_dom.mpr (mM_dom.mp h)), hS⟩)
-- finest
def wm_finest_J114 (F : tF) (Ar : tA) (y1_22 : Int32) (y2_22 : Int32) (y3_22 : Int32) (y4_22 : Int32) (y5_22 : Int32) (y6_22 : Int32) (y7_22 : Int32) (y8_22 : Int32) (Kh54_8 : tF → tA → Int32 → Int32 → Int32 → Prop) (Q : Int32 → tF → tA → Prop) : Prop :=
  (Kh54_8 F Ar y6_22 y7_22 (y8_22 + 1))
set_option maxHeartbeats 4000000 in
theorem kwm_finest_J114 {Q : Int32 → tF → tA → Prop} (X : mCx p s m args meth c cX7_finest 10 D cl ci dA dL) (hr : meth.sig.returnType = (some .int)) {F : tF} {Ar : tA} (y1_22 : Int32) (y2_22 : Int32) (y3_22 : Int32) (y4_22 : Int32) (y5_22 : Int32) (y6_22 : Int32) (y7_22 : Int32) (y8_22 : Int32) (Kh54_8 : tF → tA → Int32 → Int32 → Int32 → Prop) {H : Heap} {locs : List Loc} {ls : Array Slot} (P : mP D cl (mReg ad) ci dA dL ad s.heap F Ar H locs) (hl : lv_has ls 10 [(0, .ref (ad 0)), (1, .int y1_22), (2, .int y2_22), (3, .int y3_22), (4, .int y4_22), (5, .int y5_22), (6, .int y6_22), (7, .int y7_22), (8, .int y8_22)]) (hw : wm_finest_J114 F Ar y1_22 y2_22 y3_22 y4_22 y5_22 y6_22 y7_22 y8_22 Kh54_8 Q) (hKh54_8 : ∀ (F_ : tF) (Ar_ : tA) (w6_ : Int32) (w7_ : Int32) (w8_ : Int32) (H : Heap) (locs : List Loc) (ls : Array Slot), mP D cl (mReg ad) ci dA dL ad s.heap F_ Ar_ H locs → lv_has ls 10 [(0, .ref (ad 0)), (1, .int y1_22), (2, .int y2_22), (3, .int y3_22), (4, .int y4_22), (5, .int y5_22), (6, .int w6_), (7, .int w7_), (8, .int w8_)] → Kh54_8 F_ Ar_ w6_ w7_ w8_ → W p l e ({ frames := 6, cells := 0, slots := 0, locals := 148 }) s m args below meth c H locs 0 0 (MQ below (mQi D cl ci dA dL ad Q) args s 0 0 (mReg ad)) (F0 m 54 ls [])) : W p l e ({ frames := 6, cells := 0, slots := 0, locals := 148 }) s m args below meth c H locs 0 0 (MQ below (mQi D cl ci dA dL ad Q) args s 0 0 (mReg ad)) (F0 m 114 ls []) := by
  obtain ⟨hx, hb, hml, hown, hts, -, -, hlk⟩ := id X
  have S : CallFix p m c _ _ s args lw_all RX7 := ⟨hx, hb, hml, hown, hts⟩
  refine lv_iinc (v := (y8_22 + 1)) (lv' := [(8, .int (y8_22 + 1)), (0, .ref (ad 0)), (1, .int y1_22), (2, .int y2_22), (3, .int y3_22), (4, .int y4_22), (5, .int y5_22), (6, .int y6_22), (7, .int y7_22)]) hx hb dX7_finest_114 hl (k := 8) rfl rfl (by decide) rfl (fun ls hl => ?_)
  refine lv_goto (tgt := 54) hx hb dX7_finest_117 (by decide) ?_
  exact hKh54_8 _ _ _ _ _ _ _ _ P (lv_sub hl [1, 2, 3, 4, 5, 6, 7, 8, 0] rfl) hw
def wm_finest_J106 (F : tF) (Ar : tA) (y1_21 : Int32) (y2_21 : Int32) (y3_21 : Int32) (y4_21 : Int32) (y5_21 : Int32) (y8_21 : Int32) (y9_21 : Int32) (Kh54_8 : tF → tA → Int32 → Int32 → Int32 → Prop) (Q : Int32 → tF → tA → Prop) : Prop :=
  (wm_finest_J114 F Ar y1_21 y2_21 y3_21 y4_21 y5_21 y8_21 y9_21 y8_21 Kh54_8 Q)
set_option maxHeartbeats 4000000 in
theorem kwm_finest_J106 {Q : Int32 → tF → tA → Prop} (X : mCx p s m args meth c cX7_finest 10 D cl ci dA dL) (hr : meth.sig.returnType = (some .int)) {F : tF} {Ar : tA} (y1_21 : Int32) (y2_21 : Int32) (y3_21 : Int32) (y4_21 : Int32) (y5_21 : Int32) (y8_21 : Int32) (y9_21 : Int32) (Kh54_8 : tF → tA → Int32 → Int32 → Int32 → Prop) {H : Heap} {locs : List Loc} {ls : Array Slot} (P : mP D cl (mReg ad) ci dA dL ad s.heap F Ar H locs) (hl : lv_has ls 10 [(0, .ref (ad 0)), (1, .int y1_21), (2, .int y2_21), (3, .int y3_21), (4, .int y4_21), (5, .int y5_21), (8, .int y8_21), (9, .int y9_21)]) (hw : wm_finest_J106 F Ar y1_21 y2_21 y3_21 y4_21 y5_21 y8_21 y9_21 Kh54_8 Q) (hKh54_8 : ∀ (F_ : tF) (Ar_ : tA) (w6_ : Int32) (w7_ : Int32) (w8_ : Int32) (H : Heap) (locs : List Loc) (ls : Array Slot), mP D cl (mReg ad) ci dA dL ad s.heap F_ Ar_ H locs → lv_has ls 10 [(0, .ref (ad 0)), (1, .int y1_21), (2, .int y2_21), (3, .int y3_21), (4, .int y4_21), (5, .int y5_21), (6, .int w6_), (7, .int w7_), (8, .int w8_)] → Kh54_8 F_ Ar_ w6_ w7_ w8_ → W p l e ({ frames := 6, cells := 0, slots := 0, locals := 148 }) s m args below meth c H locs 0 0 (MQ below (mQi D cl ci dA dL ad Q) args s 0 0 (mReg ad)) (F0 m 54 ls [])) : W p l e ({ frames := 6, cells := 0, slots := 0, locals := 148 }) s m args below meth c H locs 0 0 (MQ below (mQi D cl ci dA dL ad Q) args s 0 0 (mReg ad)) (F0 m 106 ls []) := by
  obtain ⟨hx, hb, hml, hown, hts, -, -, hlk⟩ := id X
  have S : CallFix p m c _ _ s args lw_all RX7 := ⟨hx, hb, hml, hown, hts⟩
  refine lv_iload hx hb dX7_finest_106 (lv_at hl 6 rfl) ?_
  refine lv_istore (lv' := [(6, .int y8_21), (0, .ref (ad 0)), (1, .int y1_21), (2, .int y2_21), (3, .int y3_21), (4, .int y4_21), (5, .int y5_21), (8, .int y8_21), (9, .int y9_21)]) hx hb dX7_finest_108 hl (by decide) rfl (fun ls hl => ?_)
  refine lv_iload hx hb dX7_finest_110 (lv_at hl 8 rfl) ?_
  refine lv_istore (lv' := [(7, .int y9_21), (6, .int y8_21), (0, .ref (ad 0)), (1, .int y1_21), (2, .int y2_21), (3, .int y3_21), (4, .int y4_21), (5, .int y5_21), (8, .int y8_21), (9, .int y9_21)]) hx hb dX7_finest_112 hl (by decide) rfl (fun ls hl => ?_)
  exact kwm_finest_J114 X hr _ _ _ _ _ _ _ _ _ P (lv_sub hl [2, 3, 4, 5, 6, 7, 1, 0, 8] rfl) hw hKh54_8
def wm_finest_L54 (y1_8 : Int32) (y2_8 : Int32) (y3_8 : Int32) (y4_8 : Int32) (y5_8 : Int32) (Kx120_8 : tF → tA → Int32 → Prop) (Q : Int32 → tF → tA → Prop) : Nat → tF → tA → Int32 → Int32 → Int32 → Prop
  | 0, _, _, _, _, _ => False
  | f54 + 1, F, Ar, y6_8, y7_8, y8_8 =>
    (((8 : Int32) ≤ y8_8 → (Kx120_8 F Ar y6_8)) ∧ (¬ (8 : Int32) ≤ y8_8 → vp_in ((24 * y2_8) + y3_8) 48 ∧ ∀ Ar_10 : tA, Ar_10 = aset Ar 1 ((24 * y2_8) + y3_8).toNatClampNeg y8_8 → wm_lays F Ar_10 y1_8 (fun F_12 Ar_13 => wm_moves F_12 Ar_13 y1_8 y4_8 (fun r_14 F_15 Ar_16 => wm_waited F_15 Ar_16 y1_8 (fun r_17 F_18 Ar_19 => ((y8_8 = 0 → (wm_finest_J106 F_18 Ar_19 y1_8 y2_8 y3_8 y4_8 y5_8 y8_8 r_17 (wm_finest_L54 y1_8 y2_8 y3_8 y4_8 y5_8 Kx120_8 Q f54) Q)) ∧ (¬ y8_8 = 0 → ((y7_8 ≤ r_17 → (wm_finest_J114 F_18 Ar_19 y1_8 y2_8 y3_8 y4_8 y5_8 y6_8 y7_8 y8_8 (wm_finest_L54 y1_8 y2_8 y3_8 y4_8 y5_8 Kx120_8 Q f54) Q)) ∧ (¬ y7_8 ≤ r_17 → (wm_finest_J106 F_18 Ar_19 y1_8 y2_8 y3_8 y4_8 y5_8 y8_8 r_17 (wm_finest_L54 y1_8 y2_8 y3_8 y4_8 y5_8 Kx120_8 Q f54) Q))))))))))
set_option maxHeartbeats 4000000 in
theorem kwm_finest_L54 {Q : Int32 → tF → tA → Prop} (X : mCx p s m args meth c cX7_finest 10 D cl ci dA dL) (hr : meth.sig.returnType = (some .int)) (y1_8 : Int32) (y2_8 : Int32) (y3_8 : Int32) (y4_8 : Int32) (y5_8 : Int32) (Kx120_8 : tF → tA → Int32 → Prop) (hKx120_8 : ∀ (F_ : tF) (Ar_ : tA) (w6_ : Int32) (H : Heap) (locs : List Loc) (ls : Array Slot), mP D cl (mReg ad) ci dA dL ad s.heap F_ Ar_ H locs → lv_has ls 10 [(0, .ref (ad 0)), (2, .int y2_8), (3, .int y3_8), (5, .int y5_8), (6, .int w6_)] → Kx120_8 F_ Ar_ w6_ → W p l e ({ frames := 6, cells := 0, slots := 0, locals := 148 }) s m args below meth c H locs 0 0 (MQ below (mQi D cl ci dA dL ad Q) args s 0 0 (mReg ad)) (F0 m 120 ls [])) : ∀ (n : Nat) (F : tF) (Ar : tA) (y6_8 : Int32) (y7_8 : Int32) (y8_8 : Int32) (H : Heap) (locs : List Loc) (ls : Array Slot), mP D cl (mReg ad) ci dA dL ad s.heap F Ar H locs → lv_has ls 10 [(0, .ref (ad 0)), (1, .int y1_8), (2, .int y2_8), (3, .int y3_8), (4, .int y4_8), (5, .int y5_8), (6, .int y6_8), (7, .int y7_8), (8, .int y8_8)] → wm_finest_L54 y1_8 y2_8 y3_8 y4_8 y5_8 Kx120_8 Q n F Ar y6_8 y7_8 y8_8 → W p l e ({ frames := 6, cells := 0, slots := 0, locals := 148 }) s m args below meth c H locs 0 0 (MQ below (mQi D cl ci dA dL ad Q) args s 0 0 (mReg ad)) (F0 m 54 ls []) := by
  obtain ⟨hx, hb, hml, hown, hts, -, -, hlk⟩ := id X
  have S : CallFix p m c _ _ s args lw_all RX7 := ⟨hx, hb, hml, hown, hts⟩
  intro n
  induction n with
  | zero =>
    intro F Ar y6_8 y7_8 y8_8 H locs ls P hl hw
    exact hw.elim
  | succ n ih =>
    intro F Ar y6_8 y7_8 y8_8 H locs ls P hl hw
    have hKh54_8 := ih
    refine lv_iload hx hb dX7_finest_54 (lv_at hl 8 rfl) ?_
    refine lv_bipush (v := 8) hx hb dX7_finest_56 (by decide) ?_
    refine lv_icmp_ge (tgt := 120) hx hb dX7_finest_58 (by decide) (fun c_9 => ?_) (fun c_9 => ?_)
    · replace hw := hw.1 c_9
      exact hKx120_8 _ _ _ _ _ _ P (lv_sub hl [0, 2, 3, 5, 6] rfl) hw
    · replace hw := hw.2 c_9
      refine lv_aload_n hx hb dX7_finest_61 rfl (lv_at hl 0 rfl) ?_
      refine mg_toll X P dX7_finest_62 ?_
      refine lv_bipush (v := 24) hx hb dX7_finest_65 (by decide) ?_
      refine lv_iload_n hx hb dX7_finest_67 rfl (lv_at hl 2 rfl) ?_
      refine lv_imul hx hb dX7_finest_68 ?_
      refine lv_iload_n hx hb dX7_finest_69 rfl (lv_at hl 3 rfl) ?_
      refine lv_iadd hx hb dX7_finest_70 ?_
      refine lv_iload hx hb dX7_finest_71 (lv_at hl 8 rfl) ?_
      refine m_iast X P 1 rfl (by decide) hw.1 dX7_finest_73 (fun Ar_10 H locs eAr_10 P => ?_)
      replace hw := hw.2
      replace hw := hw Ar_10 eAr_10
      refine lv_aload_n hx hb dX7_finest_74 rfl (lv_at hl 0 rfl) ?_
      refine lv_iload_n hx hb dX7_finest_75 rfl (lv_at hl 1 rfl) ?_
      refine cwm_lays X P hw ⟨Nat.le_of_ble_eq_true rfl, Nat.le_of_ble_eq_true rfl⟩ hl.1 (Nat.le_of_ble_eq_true rfl) dX7_finest_76 (fun F_12 Ar_13 H locs hw P => ?_)
      refine lv_aload_n hx hb dX7_finest_79 rfl (lv_at hl 0 rfl) ?_
      refine lv_iload_n hx hb dX7_finest_80 rfl (lv_at hl 1 rfl) ?_
      refine lv_iload hx hb dX7_finest_81 (lv_at hl 4 rfl) ?_
      refine cwm_moves X P hw ⟨Nat.le_of_ble_eq_true rfl, Nat.le_of_ble_eq_true rfl⟩ hl.1 (Nat.le_of_ble_eq_true rfl) dX7_finest_83 (fun r_14 F_15 Ar_16 H locs hw P => ?_)
      refine lv_pop hx hb dX7_finest_86 rfl ?_
      refine lv_aload_n hx hb dX7_finest_87 rfl (lv_at hl 0 rfl) ?_
      refine lv_iload_n hx hb dX7_finest_88 rfl (lv_at hl 1 rfl) ?_
      refine cwm_waited X P hw ⟨Nat.le_of_ble_eq_true rfl, Nat.le_of_ble_eq_true rfl⟩ hl.1 (Nat.le_of_ble_eq_true rfl) dX7_finest_89 (fun r_17 F_18 Ar_19 H locs hw P => ?_)
      refine lv_istore (lv' := [(9, .int r_17), (0, .ref (ad 0)), (1, .int y1_8), (2, .int y2_8), (3, .int y3_8), (4, .int y4_8), (5, .int y5_8), (6, .int y6_8), (7, .int y7_8), (8, .int y8_8)]) hx hb dX7_finest_92 hl (by decide) rfl (fun ls hl => ?_)
      refine lv_iload hx hb dX7_finest_94 (lv_at hl 9 rfl) ?_
      refine lv_if_eq (tgt := 106) hx hb dX7_finest_96 (by decide) (fun c_20 => ?_) (fun c_20 => ?_)
      · replace hw := hw.1 c_20
        exact kwm_finest_J106 X hr _ _ _ _ _ _ _ _ P (lv_sub hl [1, 2, 3, 4, 5, 6, 9, 0] rfl) hw hKh54_8
      · replace hw := hw.2 c_20
        refine lv_iload hx hb dX7_finest_99 (lv_at hl 0 rfl) ?_
        refine lv_iload hx hb dX7_finest_101 (lv_at hl 8 rfl) ?_
        refine lv_icmp_ge (tgt := 114) hx hb dX7_finest_103 (by decide) (fun c_23 => ?_) (fun c_23 => ?_)
        · replace hw := hw.1 c_23
          exact kwm_finest_J114 X hr _ _ _ _ _ _ _ _ _ P (lv_sub hl [1, 2, 3, 4, 5, 6, 7, 8, 9] rfl) hw hKh54_8
        · replace hw := hw.2 c_23
          exact kwm_finest_J106 X hr _ _ _ _ _ _ _ _ P (lv_sub hl [1, 2, 3, 4, 5, 6, 9, 0] rfl) hw hKh54_8
def wm_finest (F : tF) (Ar : tA) (a1 : Int32) (a2 : Int32) (a3 : Int32) (a4 : Int32) (Q : Int32 → tF → tA → Prop) : Prop :=
  wm_isWay F Ar a1 (fun r_1 => ((r_1 = 0 → Q (-5) F Ar) ∧ (¬ r_1 = 0 → wm_isGate a2 a3 (fun r_3 => ((¬ r_3 = 0 → wm_in a4 0 1 (fun r_5 => ((¬ r_5 = 0 → vp_in ((24 * a2) + a3) 48 ∧ ∀ x5_7 : Int32, x5_7 = (Ar 1 ((24 * a2) + a3).toNatClampNeg) → (∃ n54, wm_finest_L54 a1 a2 a3 a4 x5_7 (fun (F_24 : tF) (Ar_25 : tA) (x6_26 : Int32) => vp_in ((24 * a2) + a3) 48 ∧ ∀ Ar_27 : tA, Ar_27 = aset Ar_25 1 ((24 * a2) + a3).toNatClampNeg x5_7 → Q x6_26 F_24 Ar_27) Q n54 F Ar 0 0 0)) ∧ (r_5 = 0 → Q (-7) F Ar)))) ∧ (r_3 = 0 → Q (-5) F Ar))))))
set_option maxHeartbeats 4000000 in
theorem twm_finest (l : Launch) (D : va_G) (cl : List vw_C) (ci : Nat) (dA dL : ClassId) (ad : Nat → Nat) (F : tF) (Ar : tA) (a1 : Int32) (a2 : Int32) (a3 : Int32) (a4 : Int32) (Q : Int32 → tF → tA → Prop) (hw : wm_finest F Ar a1 a2 a3 a4 Q) : Met l yX7_finest (ws_ yX7_finest cX7_finest 10 (some .int)) ({ frames := 6, cells := 0, slots := 0, locals := 148 }) (mPc D cl ci dA dL ad F Ar [.int a1, .int a2, .int a3, .int a4]) (mQi D cl ci dA dL ad Q) 0 0 (mReg ad) := by
  refine m_entry (by decide) rfl (Nat.le_of_ble_eq_true rfl) ?_
  intro p e s m below meth c ls X hr P hl
  obtain ⟨hx, hb, hml, hown, hts, -, -, hlk⟩ := id X
  have S : CallFix p m c _ _ s _ lw_all RX7 := ⟨hx, hb, hml, hown, hts⟩
  have hl : lv_has ls 10 [(0, .ref (ad 0)), (1, .int a1), (2, .int a2), (3, .int a3), (4, .int a4)] := hl
  refine lv_aload_n hx hb dX7_finest_0 rfl (lv_at hl 0 rfl) ?_
  refine lv_iload_n hx hb dX7_finest_1 rfl (lv_at hl 1 rfl) ?_
  refine cwm_isWay X P hw ⟨Nat.le_of_ble_eq_true rfl, Nat.le_of_ble_eq_true rfl⟩ hl.1 (Nat.le_of_ble_eq_true rfl) dX7_finest_2 (fun r_1 hw => ?_)
  refine lv_if_eq (tgt := 16) hx hb dX7_finest_5 (by decide) (fun c_2 => ?_) (fun c_2 => ?_)
  · replace hw := hw.1 c_2
    refine lv_bipush (v := (-5)) hx hb dX7_finest_16 (by decide) ?_
    exact m_iret X P hr hw dX7_finest_18
  · replace hw := hw.2 c_2
    refine lv_iload_n hx hb dX7_finest_8 rfl (lv_at hl 2 rfl) ?_
    refine lv_iload_n hx hb dX7_finest_9 rfl (lv_at hl 3 rfl) ?_
    refine cwm_isGate S hw ⟨Nat.le_of_ble_eq_true rfl, Nat.le_of_ble_eq_true rfl⟩ hl.1 (Nat.le_of_ble_eq_true rfl) dX7_finest_10 (fun r_3 hw => ?_)
    refine lv_if_ne (tgt := 19) hx hb dX7_finest_13 (by decide) (fun c_4 => ?_) (fun c_4 => ?_)
    · replace hw := hw.1 c_4
      refine lv_iload hx hb dX7_finest_19 (lv_at hl 4 rfl) ?_
      refine lv_iconst (v := 0) hx hb dX7_finest_21 (by decide) ?_
      refine lv_iconst (v := 1) hx hb dX7_finest_22 (by decide) ?_
      refine cwm_in S hw ⟨Nat.le_of_ble_eq_true rfl, Nat.le_of_ble_eq_true rfl⟩ hl.1 (Nat.le_of_ble_eq_true rfl) dX7_finest_23 (fun r_5 hw => ?_)
      refine lv_if_ne (tgt := 32) hx hb dX7_finest_26 (by decide) (fun c_6 => ?_) (fun c_6 => ?_)
      · replace hw := hw.1 c_6
        refine lv_aload_n hx hb dX7_finest_32 rfl (lv_at hl 0 rfl) ?_
        refine mg_toll X P dX7_finest_33 ?_
        refine lv_bipush (v := 24) hx hb dX7_finest_36 (by decide) ?_
        refine lv_iload_n hx hb dX7_finest_38 rfl (lv_at hl 2 rfl) ?_
        refine lv_imul hx hb dX7_finest_39 ?_
        refine lv_iload_n hx hb dX7_finest_40 rfl (lv_at hl 3 rfl) ?_
        refine lv_iadd hx hb dX7_finest_41 ?_
        refine m_iald X P 1 rfl (by decide) hw.1 dX7_finest_42 ?_
        replace hw := hw.2
        refine lv_topi (fun x5_7 ex5_7 => ?_)
        replace hw := hw x5_7 ex5_7
        refine lv_istore (lv' := [(5, .int x5_7), (0, .ref (ad 0)), (1, .int a1), (2, .int a2), (3, .int a3), (4, .int a4)]) hx hb dX7_finest_43 hl (by decide) rfl (fun ls hl => ?_)
        refine lv_iconst (v := 0) hx hb dX7_finest_45 (by decide) ?_
        refine lv_istore (lv' := [(6, .int 0), (5, .int x5_7), (0, .ref (ad 0)), (1, .int a1), (2, .int a2), (3, .int a3), (4, .int a4)]) hx hb dX7_finest_46 hl (by decide) rfl (fun ls hl => ?_)
        refine lv_iconst (v := 0) hx hb dX7_finest_48 (by decide) ?_
        refine lv_istore (lv' := [(7, .int 0), (6, .int 0), (5, .int x5_7), (0, .ref (ad 0)), (1, .int a1), (2, .int a2), (3, .int a3), (4, .int a4)]) hx hb dX7_finest_49 hl (by decide) rfl (fun ls hl => ?_)
        refine lv_iconst (v := 0) hx hb dX7_finest_51 (by decide) ?_
        refine lv_istore (lv' := [(8, .int 0), (7, .int 0), (6, .int 0), (5, .int x5_7), (0, .ref (ad 0)), (1, .int a1), (2, .int a2), (3, .int a3), (4, .int a4)]) hx hb dX7_finest_52 hl (by decide) rfl (fun ls hl => ?_)
        obtain ⟨n_28, hw⟩ := hw
        refine kwm_finest_L54 X hr _ _ _ _ _ _   ?_ n_28 _ _ _ _ _ _ _ _ P (lv_sub hl [4, 5, 6, 7, 8, 3, 2, 1, 0] rfl) hw
        · intro F_24 Ar_25 x6_26 H locs ls P hl hw
          refine lv_aload_n hx hb dX7_finest_120 rfl (lv_at hl 0 rfl) ?_
          refine mg_toll X P dX7_finest_121 ?_
          refine lv_bipush (v := 24) hx hb dX7_finest_124 (by decide) ?_
          refine lv_iload_n hx hb dX7_finest_126 rfl (lv_at hl 1 rfl) ?_
          refine lv_imul hx hb dX7_finest_127 ?_
          refine lv_iload_n hx hb dX7_finest_128 rfl (lv_at hl 2 rfl) ?_
          refine lv_iadd hx hb dX7_finest_129 ?_
          refine lv_iload hx hb dX7_finest_130 (lv_at hl 3 rfl) ?_
          refine m_iast X P 1 rfl (by decide) hw.1 dX7_finest_132 (fun Ar_27 H locs eAr_27 P => ?_)
          replace hw := hw.2
          replace hw := hw Ar_27 eAr_27
          refine lv_iload hx hb dX7_finest_133 (lv_at hl 4 rfl) ?_
          exact m_iret X P hr hw dX7_finest_135
      · replace hw := hw.2 c_6
        refine lv_bipush (v := (-7)) hx hb dX7_finest_29 (by decide) ?_
        exact m_iret X P hr hw dX7_finest_31
    · replace hw := hw.2 c_4
      refine lv_bipush (v := (-5)) hx hb dX7_finest_16 (by decide) ?_
      exact m_iret X P hr hw dX7_finest_18
-- split
def wm_split_J88 (F : tF) (Ar : tA) (y1_14 : Int32) (y2_14 : Int32) (y3_14 : Int32) (y4_14 : Int32) (y5_14 : Int32) (y6_14 : Int64) (y8_14 : Int32) (y9_14 : Int32) (z0_14 : Int32) (z1_14 : Int32) (Kh59_11 : tA → Int32 → Prop) (Q : Int64 → tF → tA → Prop) : Prop :=
  vp_in z1_14 16 ∧ ∀ Ar_15 : tA, Ar_15 = aset Ar 40 z1_14.toNatClampNeg z0_14 → (Kh59_11 Ar_15 (y9_14 + 1))
set_option maxHeartbeats 4000000 in
theorem kwm_split_J88 {Q : Int64 → tF → tA → Prop} (X : mCx p s m args meth c cX7_split 11 D cl ci dA dL) (hr : meth.sig.returnType = (some .long)) {F : tF} {Ar : tA} (y1_14 : Int32) (y2_14 : Int32) (y3_14 : Int32) (y4_14 : Int32) (y5_14 : Int32) (y6_14 : Int64) (y8_14 : Int32) (y9_14 : Int32) (z0_14 : Int32) (z1_14 : Int32) (Kh59_11 : tA → Int32 → Prop) {H : Heap} {locs : List Loc} {ls : Array Slot} (P : mP D cl (mReg ad) ci dA dL ad s.heap F Ar H locs) (hl : lv_has ls 11 [(0, .ref (ad 0)), (1, .int y1_14), (2, .int y2_14), (3, .int y3_14), (4, .int y4_14), (5, .int y5_14), (6, .long y6_14), (8, .int y8_14), (9, .int y9_14)]) (hw : wm_split_J88 F Ar y1_14 y2_14 y3_14 y4_14 y5_14 y6_14 y8_14 y9_14 z0_14 z1_14 Kh59_11 Q) (hKh59_11 : ∀ (Ar_ : tA) (w9_ : Int32) (H : Heap) (locs : List Loc) (ls : Array Slot), mP D cl (mReg ad) ci dA dL ad s.heap F Ar_ H locs → lv_has ls 11 [(0, .ref (ad 0)), (1, .int y1_14), (2, .int y2_14), (3, .int y3_14), (4, .int y4_14), (5, .int y5_14), (6, .long y6_14), (8, .int y8_14), (9, .int w9_)] → Kh59_11 Ar_ w9_ → W p l e ({ frames := 4, cells := 0, slots := 0, locals := 92 }) s m args below meth c H locs 0 0 (MQ below (mQl D cl ci dA dL ad Q) args s 0 0 (mReg ad)) (F0 m 59 ls [])) : W p l e ({ frames := 4, cells := 0, slots := 0, locals := 92 }) s m args below meth c H locs 0 0 (MQ below (mQl D cl ci dA dL ad Q) args s 0 0 (mReg ad)) (F0 m 88 ls [.int z0_14, .int z1_14, .ref (ad 41)]) := by
  obtain ⟨hx, hb, hml, hown, hts, -, -, hlk⟩ := id X
  have S : CallFix p m c _ _ s args lw_all RX7 := ⟨hx, hb, hml, hown, hts⟩
  refine m_iast X P 40 rfl (by decide) hw.1 dX7_split_88 (fun Ar_15 H locs eAr_15 P => ?_)
  replace hw := hw.2
  replace hw := hw Ar_15 eAr_15
  refine lv_iinc (v := (y9_14 + 1)) (lv' := [(9, .int (y9_14 + 1)), (0, .ref (ad 0)), (1, .int y1_14), (2, .int y2_14), (3, .int y3_14), (4, .int y4_14), (5, .int y5_14), (6, .long y6_14), (8, .int y8_14)]) hx hb dX7_split_89 hl (k := 8) rfl rfl (by decide) rfl (fun ls hl => ?_)
  refine lv_goto (tgt := 59) hx hb dX7_split_92 (by decide) ?_
  exact hKh59_11 _ _ _ _ _ P (lv_sub hl [1, 2, 3, 4, 5, 6, 7, 8, 0] rfl) hw
def wm_split_L59 (F : tF) (y1_11 : Int32) (y2_11 : Int32) (y3_11 : Int32) (y4_11 : Int32) (y5_11 : Int32) (y6_11 : Int64) (y8_11 : Int32) (Kx95_11 : tA → Prop) (Q : Int64 → tF → tA → Prop) : Nat → tA → Int32 → Prop
  | 0, _, _ => False
  | f59 + 1, Ar, y9_11 =>
    vp_in y1_11 8 ∧ (((Ar 10 y1_11.toNatClampNeg) ≤ y9_11 → (Kx95_11 Ar)) ∧ (¬ (Ar 10 y1_11.toNatClampNeg) ≤ y9_11 → ((y8_11 ≤ y9_11 → (wm_split_J88 F Ar y1_11 y2_11 y3_11 y4_11 y5_11 y6_11 y8_11 y9_11 y3_11 y9_11 (wm_split_L59 F y1_11 y2_11 y3_11 y4_11 y5_11 y6_11 y8_11 Kx95_11 Q f59) Q)) ∧ (¬ y8_11 ≤ y9_11 → (wm_split_J88 F Ar y1_11 y2_11 y3_11 y4_11 y5_11 y6_11 y8_11 y9_11 y2_11 y9_11 (wm_split_L59 F y1_11 y2_11 y3_11 y4_11 y5_11 y6_11 y8_11 Kx95_11 Q f59) Q)))))
set_option maxHeartbeats 4000000 in
theorem kwm_split_L59 {Q : Int64 → tF → tA → Prop} (X : mCx p s m args meth c cX7_split 11 D cl ci dA dL) (hr : meth.sig.returnType = (some .long)) (F : tF) (y1_11 : Int32) (y2_11 : Int32) (y3_11 : Int32) (y4_11 : Int32) (y5_11 : Int32) (y6_11 : Int64) (y8_11 : Int32) (Kx95_11 : tA → Prop) (hKx95_11 : ∀ (Ar_ : tA) (H : Heap) (locs : List Loc) (ls : Array Slot), mP D cl (mReg ad) ci dA dL ad s.heap F Ar_ H locs → lv_has ls 11 [(0, .ref (ad 0)), (1, .int y1_11), (2, .int y2_11), (3, .int y3_11), (4, .int y4_11), (5, .int y5_11), (6, .long y6_11), (8, .int y8_11)] → Kx95_11 Ar_ → W p l e ({ frames := 4, cells := 0, slots := 0, locals := 92 }) s m args below meth c H locs 0 0 (MQ below (mQl D cl ci dA dL ad Q) args s 0 0 (mReg ad)) (F0 m 95 ls [])) : ∀ (n : Nat) (Ar : tA) (y9_11 : Int32) (H : Heap) (locs : List Loc) (ls : Array Slot), mP D cl (mReg ad) ci dA dL ad s.heap F Ar H locs → lv_has ls 11 [(0, .ref (ad 0)), (1, .int y1_11), (2, .int y2_11), (3, .int y3_11), (4, .int y4_11), (5, .int y5_11), (6, .long y6_11), (8, .int y8_11), (9, .int y9_11)] → wm_split_L59 F y1_11 y2_11 y3_11 y4_11 y5_11 y6_11 y8_11 Kx95_11 Q n Ar y9_11 → W p l e ({ frames := 4, cells := 0, slots := 0, locals := 92 }) s m args below meth c H locs 0 0 (MQ below (mQl D cl ci dA dL ad Q) args s 0 0 (mReg ad)) (F0 m 59 ls []) := by
  obtain ⟨hx, hb, hml, hown, hts, -, -, hlk⟩ := id X
  have S : CallFix p m c _ _ s args lw_all RX7 := ⟨hx, hb, hml, hown, hts⟩
  intro n
  induction n with
  | zero =>
    intro Ar y9_11 H locs ls P hl hw
    exact hw.elim
  | succ n ih =>
    intro Ar y9_11 H locs ls P hl hw
    have hKh59_11 := ih
    refine lv_iload hx hb dX7_split_59 (lv_at hl 8 rfl) ?_
    refine lv_aload_n hx hb dX7_split_61 rfl (lv_at hl 0 rfl) ?_
    refine mg_many X P dX7_split_62 ?_
    refine lv_iload_n hx hb dX7_split_65 rfl (lv_at hl 1 rfl) ?_
    refine m_iald X P 10 rfl (by decide) hw.1 dX7_split_66 ?_
    replace hw := hw.2
    refine lv_icmp_ge (tgt := 95) hx hb dX7_split_67 (by decide) (fun c_12 => ?_) (fun c_12 => ?_)
    · replace hw := hw.1 c_12
      exact hKx95_11 _ _ _ _ P (lv_sub hl [0, 1, 2, 3, 4, 5, 6, 7] rfl) hw
    · replace hw := hw.2 c_12
      refine lv_aload_n hx hb dX7_split_70 rfl (lv_at hl 0 rfl) ?_
      refine mg_now X P dX7_split_71 ?_
      refine lv_iload hx hb dX7_split_74 (lv_at hl 8 rfl) ?_
      refine lv_iload hx hb dX7_split_76 (lv_at hl 8 rfl) ?_
      refine lv_iload hx hb dX7_split_78 (lv_at hl 7 rfl) ?_
      refine lv_icmp_ge (tgt := 87) hx hb dX7_split_80 (by decide) (fun c_13 => ?_) (fun c_13 => ?_)
      · replace hw := hw.1 c_13
        refine lv_iload_n hx hb dX7_split_87 rfl (lv_at hl 3 rfl) ?_
        exact kwm_split_J88 X hr _ _ _ _ _ _ _ _ _ _ _ P (lv_sub hl [0, 1, 2, 3, 4, 5, 6, 7, 8] rfl) hw hKh59_11
      · replace hw := hw.2 c_13
        refine lv_iload_n hx hb dX7_split_83 rfl (lv_at hl 2 rfl) ?_
        refine lv_goto (tgt := 88) hx hb dX7_split_84 (by decide) ?_
        exact kwm_split_J88 X hr _ _ _ _ _ _ _ _ _ _ _ P (lv_sub hl [0, 1, 2, 3, 4, 5, 6, 7, 8] rfl) hw hKh59_11
def wm_split_J128 (F : tF) (Ar : tA) (y1_25 : Int32) (y2_25 : Int32) (y3_25 : Int32) (y4_25 : Int32) (y5_25 : Int32) (y6_25 : Int64) (y8_25 : Int32) (Kh45_9 : tF → tA → Int32 → Int64 → Int32 → Prop) (Q : Int64 → tF → tA → Prop) : Prop :=
  (Kh45_9 F Ar y5_25 y6_25 (y8_25 + 1))
set_option maxHeartbeats 4000000 in
theorem kwm_split_J128 {Q : Int64 → tF → tA → Prop} (X : mCx p s m args meth c cX7_split 11 D cl ci dA dL) (hr : meth.sig.returnType = (some .long)) {F : tF} {Ar : tA} (y1_25 : Int32) (y2_25 : Int32) (y3_25 : Int32) (y4_25 : Int32) (y5_25 : Int32) (y6_25 : Int64) (y8_25 : Int32) (Kh45_9 : tF → tA → Int32 → Int64 → Int32 → Prop) {H : Heap} {locs : List Loc} {ls : Array Slot} (P : mP D cl (mReg ad) ci dA dL ad s.heap F Ar H locs) (hl : lv_has ls 11 [(0, .ref (ad 0)), (1, .int y1_25), (2, .int y2_25), (3, .int y3_25), (4, .int y4_25), (5, .int y5_25), (6, .long y6_25), (8, .int y8_25)]) (hw : wm_split_J128 F Ar y1_25 y2_25 y3_25 y4_25 y5_25 y6_25 y8_25 Kh45_9 Q) (hKh45_9 : ∀ (F_ : tF) (Ar_ : tA) (w5_ : Int32) (w6_ : Int64) (w8_ : Int32) (H : Heap) (locs : List Loc) (ls : Array Slot), mP D cl (mReg ad) ci dA dL ad s.heap F_ Ar_ H locs → lv_has ls 11 [(0, .ref (ad 0)), (1, .int y1_25), (2, .int y2_25), (3, .int y3_25), (4, .int y4_25), (5, .int w5_), (6, .long w6_), (8, .int w8_)] → Kh45_9 F_ Ar_ w5_ w6_ w8_ → W p l e ({ frames := 4, cells := 0, slots := 0, locals := 92 }) s m args below meth c H locs 0 0 (MQ below (mQl D cl ci dA dL ad Q) args s 0 0 (mReg ad)) (F0 m 45 ls [])) : W p l e ({ frames := 4, cells := 0, slots := 0, locals := 92 }) s m args below meth c H locs 0 0 (MQ below (mQl D cl ci dA dL ad Q) args s 0 0 (mReg ad)) (F0 m 128 ls []) := by
  obtain ⟨hx, hb, hml, hown, hts, -, -, hlk⟩ := id X
  have S : CallFix p m c _ _ s args lw_all RX7 := ⟨hx, hb, hml, hown, hts⟩
  refine lv_iinc (v := (y8_25 + 1)) (lv' := [(8, .int (y8_25 + 1)), (0, .ref (ad 0)), (1, .int y1_25), (2, .int y2_25), (3, .int y3_25), (4, .int y4_25), (5, .int y5_25), (6, .long y6_25)]) hx hb dX7_split_128 hl (k := 7) rfl rfl (by decide) rfl (fun ls hl => ?_)
  refine lv_goto (tgt := 45) hx hb dX7_split_131 (by decide) ?_
  exact hKh45_9 _ _ _ _ _ _ _ _ P (lv_sub hl [1, 2, 3, 4, 5, 6, 7, 0] rfl) hw
def wm_split_J120 (F : tF) (Ar : tA) (y1_24 : Int32) (y2_24 : Int32) (y3_24 : Int32) (y4_24 : Int32) (y8_24 : Int32) (y9_24 : Int64) (Kh45_9 : tF → tA → Int32 → Int64 → Int32 → Prop) (Q : Int64 → tF → tA → Prop) : Prop :=
  (wm_split_J128 F Ar y1_24 y2_24 y3_24 y4_24 y8_24 y9_24 y8_24 Kh45_9 Q)
set_option maxHeartbeats 4000000 in
theorem kwm_split_J120 {Q : Int64 → tF → tA → Prop} (X : mCx p s m args meth c cX7_split 11 D cl ci dA dL) (hr : meth.sig.returnType = (some .long)) {F : tF} {Ar : tA} (y1_24 : Int32) (y2_24 : Int32) (y3_24 : Int32) (y4_24 : Int32) (y8_24 : Int32) (y9_24 : Int64) (Kh45_9 : tF → tA → Int32 → Int64 → Int32 → Prop) {H : Heap} {locs : List Loc} {ls : Array Slot} (P : mP D cl (mReg ad) ci dA dL ad s.heap F Ar H locs) (hl : lv_has ls 11 [(0, .ref (ad 0)), (1, .int y1_24), (2, .int y2_24), (3, .int y3_24), (4, .int y4_24), (8, .int y8_24), (9, .long y9_24)]) (hw : wm_split_J120 F Ar y1_24 y2_24 y3_24 y4_24 y8_24 y9_24 Kh45_9 Q) (hKh45_9 : ∀ (F_ : tF) (Ar_ : tA) (w5_ : Int32) (w6_ : Int64) (w8_ : Int32) (H : Heap) (locs : List Loc) (ls : Array Slot), mP D cl (mReg ad) ci dA dL ad s.heap F_ Ar_ H locs → lv_has ls 11 [(0, .ref (ad 0)), (1, .int y1_24), (2, .int y2_24), (3, .int y3_24), (4, .int y4_24), (5, .int w5_), (6, .long w6_), (8, .int w8_)] → Kh45_9 F_ Ar_ w5_ w6_ w8_ → W p l e ({ frames := 4, cells := 0, slots := 0, locals := 92 }) s m args below meth c H locs 0 0 (MQ below (mQl D cl ci dA dL ad Q) args s 0 0 (mReg ad)) (F0 m 45 ls [])) : W p l e ({ frames := 4, cells := 0, slots := 0, locals := 92 }) s m args below meth c H locs 0 0 (MQ below (mQl D cl ci dA dL ad Q) args s 0 0 (mReg ad)) (F0 m 120 ls []) := by
  obtain ⟨hx, hb, hml, hown, hts, -, -, hlk⟩ := id X
  have S : CallFix p m c _ _ s args lw_all RX7 := ⟨hx, hb, hml, hown, hts⟩
  refine lv_iload hx hb dX7_split_120 (lv_at hl 5 rfl) ?_
  refine lv_istore (lv' := [(5, .int y8_24), (0, .ref (ad 0)), (1, .int y1_24), (2, .int y2_24), (3, .int y3_24), (4, .int y4_24), (8, .int y8_24), (9, .long y9_24)]) hx hb dX7_split_122 hl (by decide) rfl (fun ls hl => ?_)
  refine lv_lload hx hb dX7_split_124 (lv_at hl 7 rfl) ?_
  refine lv_lstore (lv' := [(6, .long y9_24), (5, .int y8_24), (0, .ref (ad 0)), (1, .int y1_24), (2, .int y2_24), (3, .int y3_24), (4, .int y4_24), (8, .int y8_24), (9, .long y9_24)]) hx hb dX7_split_126 hl (by decide) rfl (fun ls hl => ?_)
  exact kwm_split_J128 X hr _ _ _ _ _ _ _ _ P (lv_sub hl [2, 3, 4, 5, 6, 1, 0, 7] rfl) hw hKh45_9
def wm_split_L45 (y1_9 : Int32) (y2_9 : Int32) (y3_9 : Int32) (y4_9 : Int32) (Kx134_9 : tF → tA → Int32 → Int64 → Prop) (Q : Int64 → tF → tA → Prop) : Nat → tF → tA → Int32 → Int64 → Int32 → Prop
  | 0, _, _, _, _, _ => False
  | f45 + 1, F, Ar, y5_9, y6_9, y8_9 =>
    vp_in y1_9 8 ∧ (((Ar 10 y1_9.toNatClampNeg) < y8_9 → (Kx134_9 F Ar y5_9 y6_9)) ∧ (¬ (Ar 10 y1_9.toNatClampNeg) < y8_9 → (∃ n59, wm_split_L59 F y1_9 y2_9 y3_9 y4_9 y5_9 y6_9 y8_9 (fun (Ar_16 : tA) => wm_goes F Ar_16 y1_9 (fun F_18 Ar_19 => wm_costAll F_18 Ar_19 y1_9 (fun r_20 F_21 Ar_22 => ((y8_9 = 0 → (wm_split_J120 F_21 Ar_22 y1_9 y2_9 y3_9 y4_9 y8_9 r_20 (wm_split_L45 y1_9 y2_9 y3_9 y4_9 Kx134_9 Q f45) Q)) ∧ (¬ y8_9 = 0 → ((y6_9 ≤ r_20 → (wm_split_J128 F_21 Ar_22 y1_9 y2_9 y3_9 y4_9 y5_9 y6_9 y8_9 (wm_split_L45 y1_9 y2_9 y3_9 y4_9 Kx134_9 Q f45) Q)) ∧ (¬ y6_9 ≤ r_20 → (wm_split_J120 F_21 Ar_22 y1_9 y2_9 y3_9 y4_9 y8_9 r_20 (wm_split_L45 y1_9 y2_9 y3_9 y4_9 Kx134_9 Q f45) Q)))))))) Q n59 Ar 0)))
set_option maxHeartbeats 4000000 in
theorem kwm_split_L45 {Q : Int64 → tF → tA → Prop} (X : mCx p s m args meth c cX7_split 11 D cl ci dA dL) (hr : meth.sig.returnType = (some .long)) (y1_9 : Int32) (y2_9 : Int32) (y3_9 : Int32) (y4_9 : Int32) (Kx134_9 : tF → tA → Int32 → Int64 → Prop) (hKx134_9 : ∀ (F_ : tF) (Ar_ : tA) (w5_ : Int32) (w6_ : Int64) (H : Heap) (locs : List Loc) (ls : Array Slot), mP D cl (mReg ad) ci dA dL ad s.heap F_ Ar_ H locs → lv_has ls 11 [(0, .ref (ad 0)), (4, .int y4_9), (5, .int w5_), (6, .long w6_)] → Kx134_9 F_ Ar_ w5_ w6_ → W p l e ({ frames := 4, cells := 0, slots := 0, locals := 92 }) s m args below meth c H locs 0 0 (MQ below (mQl D cl ci dA dL ad Q) args s 0 0 (mReg ad)) (F0 m 134 ls [])) : ∀ (n : Nat) (F : tF) (Ar : tA) (y5_9 : Int32) (y6_9 : Int64) (y8_9 : Int32) (H : Heap) (locs : List Loc) (ls : Array Slot), mP D cl (mReg ad) ci dA dL ad s.heap F Ar H locs → lv_has ls 11 [(0, .ref (ad 0)), (1, .int y1_9), (2, .int y2_9), (3, .int y3_9), (4, .int y4_9), (5, .int y5_9), (6, .long y6_9), (8, .int y8_9)] → wm_split_L45 y1_9 y2_9 y3_9 y4_9 Kx134_9 Q n F Ar y5_9 y6_9 y8_9 → W p l e ({ frames := 4, cells := 0, slots := 0, locals := 92 }) s m args below meth c H locs 0 0 (MQ below (mQl D cl ci dA dL ad Q) args s 0 0 (mReg ad)) (F0 m 45 ls []) := by
  obtain ⟨hx, hb, hml, hown, hts, -, -, hlk⟩ := id X
  have S : CallFix p m c _ _ s args lw_all RX7 := ⟨hx, hb, hml, hown, hts⟩
  intro n
  induction n with
  | zero =>
    intro F Ar y5_9 y6_9 y8_9 H locs ls P hl hw
    exact hw.elim
  | succ n ih =>
    intro F Ar y5_9 y6_9 y8_9 H locs ls P hl hw
    have hKh45_9 := ih
    refine lv_iload hx hb dX7_split_45 (lv_at hl 7 rfl) ?_
    refine lv_aload_n hx hb dX7_split_47 rfl (lv_at hl 0 rfl) ?_
    refine mg_many X P dX7_split_48 ?_
    refine lv_iload_n hx hb dX7_split_51 rfl (lv_at hl 1 rfl) ?_
    refine m_iald X P 10 rfl (by decide) hw.1 dX7_split_52 ?_
    replace hw := hw.2
    refine lv_icmp_gt (tgt := 134) hx hb dX7_split_53 (by decide) (fun c_10 => ?_) (fun c_10 => ?_)
    · replace hw := hw.1 c_10
      exact hKx134_9 _ _ _ _ _ _ _ P (lv_sub hl [0, 4, 5, 6] rfl) hw
    · replace hw := hw.2 c_10
      refine lv_iconst (v := 0) hx hb dX7_split_56 (by decide) ?_
      refine lv_istore (lv' := [(9, .int 0), (0, .ref (ad 0)), (1, .int y1_9), (2, .int y2_9), (3, .int y3_9), (4, .int y4_9), (5, .int y5_9), (6, .long y6_9), (8, .int y8_9)]) hx hb dX7_split_57 hl (by decide) rfl (fun ls hl => ?_)
      obtain ⟨n_27, hw⟩ := hw
      refine kwm_split_L59 X hr _ _ _ _ _ _ _ _ _   ?_ n_27 _ _ _ _ _ P (lv_sub hl [1, 2, 3, 4, 5, 6, 7, 8, 0] rfl) hw
      · intro Ar_16 H locs ls P hl hw
        refine lv_aload_n hx hb dX7_split_95 rfl (lv_at hl 0 rfl) ?_
        refine lv_iload_n hx hb dX7_split_96 rfl (lv_at hl 1 rfl) ?_
        refine cwm_goes X P hw ⟨Nat.le_of_ble_eq_true rfl, Nat.le_of_ble_eq_true rfl⟩ hl.1 (Nat.le_of_ble_eq_true rfl) dX7_split_97 (fun F_18 Ar_19 H locs hw P => ?_)
        refine lv_aload_n hx hb dX7_split_100 rfl (lv_at hl 0 rfl) ?_
        refine lv_iload_n hx hb dX7_split_101 rfl (lv_at hl 1 rfl) ?_
        refine cwm_costAll X P hw ⟨Nat.le_of_ble_eq_true rfl, Nat.le_of_ble_eq_true rfl⟩ hl.1 (Nat.le_of_ble_eq_true rfl) dX7_split_102 (fun r_20 F_21 Ar_22 H locs hw P => ?_)
        refine lv_lstore (lv' := [(9, .long r_20), (0, .ref (ad 0)), (1, .int y1_9), (2, .int y2_9), (3, .int y3_9), (4, .int y4_9), (5, .int y5_9), (6, .long y6_9), (8, .int y8_9)]) hx hb dX7_split_105 hl (by decide) rfl (fun ls hl => ?_)
        refine lv_iload hx hb dX7_split_107 (lv_at hl 8 rfl) ?_
        refine lv_if_eq (tgt := 120) hx hb dX7_split_109 (by decide) (fun c_23 => ?_) (fun c_23 => ?_)
        · replace hw := hw.1 c_23
          exact kwm_split_J120 X hr _ _ _ _ _ _ _ P (lv_sub hl [1, 2, 3, 4, 5, 8, 0] rfl) hw hKh45_9
        · replace hw := hw.2 c_23
          refine lv_lload hx hb dX7_split_112 (lv_at hl 0 rfl) ?_
          refine lv_lload hx hb dX7_split_114 (lv_at hl 7 rfl) ?_
          refine lc_ge (tgt := 128) hx hb dX7_split_116 dX7_split_117 (by decide) (fun c_26 => ?_) (fun c_26 => ?_)
          · replace hw := hw.1 c_26
            exact kwm_split_J128 X hr _ _ _ _ _ _ _ _ P (lv_sub hl [1, 2, 3, 4, 5, 6, 7, 8] rfl) hw hKh45_9
          · replace hw := hw.2 c_26
            exact kwm_split_J120 X hr _ _ _ _ _ _ _ P (lv_sub hl [1, 2, 3, 4, 5, 8, 0] rfl) hw hKh45_9
def wm_split (F : tF) (Ar : tA) (a1 : Int32) (a2 : Int32) (a3 : Int32) (a4 : Int32) (Q : Int64 → tF → tA → Prop) : Prop :=
  wm_isWay F Ar a1 (fun r_1 => ((r_1 = 0 → Q (-4611686018427387904) F Ar) ∧ (¬ r_1 = 0 → wm_isChoice a2 (fun r_3 => ((r_3 = 0 → Q (-4611686018427387904) F Ar) ∧ (¬ r_3 = 0 → wm_isChoice a3 (fun r_5 => ((r_5 = 0 → Q (-4611686018427387904) F Ar) ∧ (¬ r_5 = 0 → wm_in a4 0 1 (fun r_7 => ((¬ r_7 = 0 → (∃ n45, wm_split_L45 a1 a2 a3 a4 (fun (F_28 : tF) (Ar_29 : tA) (x5_30 : Int32) (x6_31 : Int64) => ((¬ a4 = 0 → Q x6_31 F_28 Ar_29) ∧ (a4 = 0 → Q (x5_30.toInt64) F_28 Ar_29))) Q n45 F Ar 0 0 0)) ∧ (r_7 = 0 → Q (-4611686018427387904) F Ar))))))))))))
set_option maxHeartbeats 4000000 in
theorem twm_split (l : Launch) (D : va_G) (cl : List vw_C) (ci : Nat) (dA dL : ClassId) (ad : Nat → Nat) (F : tF) (Ar : tA) (a1 : Int32) (a2 : Int32) (a3 : Int32) (a4 : Int32) (Q : Int64 → tF → tA → Prop) (hw : wm_split F Ar a1 a2 a3 a4 Q) : Met l yX7_split (ws_ yX7_split cX7_split 11 (some .long)) ({ frames := 4, cells := 0, slots := 0, locals := 92 }) (mPc D cl ci dA dL ad F Ar [.int a1, .int a2, .int a3, .int a4]) (mQl D cl ci dA dL ad Q) 0 0 (mReg ad) := by
  refine m_entry (by decide) rfl (Nat.le_of_ble_eq_true rfl) ?_
  intro p e s m below meth c ls X hr P hl
  obtain ⟨hx, hb, hml, hown, hts, -, -, hlk⟩ := id X
  have S : CallFix p m c _ _ s _ lw_all RX7 := ⟨hx, hb, hml, hown, hts⟩
  have hl : lv_has ls 11 [(0, .ref (ad 0)), (1, .int a1), (2, .int a2), (3, .int a3), (4, .int a4)] := hl
  refine lv_aload_n hx hb dX7_split_0 rfl (lv_at hl 0 rfl) ?_
  refine lv_iload_n hx hb dX7_split_1 rfl (lv_at hl 1 rfl) ?_
  refine cwm_isWay X P hw ⟨Nat.le_of_ble_eq_true rfl, Nat.le_of_ble_eq_true rfl⟩ hl.1 (Nat.le_of_ble_eq_true rfl) dX7_split_2 (fun r_1 hw => ?_)
  refine lv_if_eq (tgt := 32) hx hb dX7_split_5 (by decide) (fun c_2 => ?_) (fun c_2 => ?_)
  · replace hw := hw.1 c_2
    refine lv_ldc2 (v := (-4611686018427387904)) hx hb hown (hts _ q1656) dX7_split_32 ?_
    exact m_lret X P hr hw dX7_split_35
  · replace hw := hw.2 c_2
    refine lv_iload_n hx hb dX7_split_8 rfl (lv_at hl 2 rfl) ?_
    refine cwm_isChoice S hw ⟨Nat.le_of_ble_eq_true rfl, Nat.le_of_ble_eq_true rfl⟩ hl.1 (Nat.le_of_ble_eq_true rfl) dX7_split_9 (fun r_3 hw => ?_)
    refine lv_if_eq (tgt := 32) hx hb dX7_split_12 (by decide) (fun c_4 => ?_) (fun c_4 => ?_)
    · replace hw := hw.1 c_4
      refine lv_ldc2 (v := (-4611686018427387904)) hx hb hown (hts _ q1656) dX7_split_32 ?_
      exact m_lret X P hr hw dX7_split_35
    · replace hw := hw.2 c_4
      refine lv_iload_n hx hb dX7_split_15 rfl (lv_at hl 3 rfl) ?_
      refine cwm_isChoice S hw ⟨Nat.le_of_ble_eq_true rfl, Nat.le_of_ble_eq_true rfl⟩ hl.1 (Nat.le_of_ble_eq_true rfl) dX7_split_16 (fun r_5 hw => ?_)
      refine lv_if_eq (tgt := 32) hx hb dX7_split_19 (by decide) (fun c_6 => ?_) (fun c_6 => ?_)
      · replace hw := hw.1 c_6
        refine lv_ldc2 (v := (-4611686018427387904)) hx hb hown (hts _ q1656) dX7_split_32 ?_
        exact m_lret X P hr hw dX7_split_35
      · replace hw := hw.2 c_6
        refine lv_iload hx hb dX7_split_22 (lv_at hl 4 rfl) ?_
        refine lv_iconst (v := 0) hx hb dX7_split_24 (by decide) ?_
        refine lv_iconst (v := 1) hx hb dX7_split_25 (by decide) ?_
        refine cwm_in S hw ⟨Nat.le_of_ble_eq_true rfl, Nat.le_of_ble_eq_true rfl⟩ hl.1 (Nat.le_of_ble_eq_true rfl) dX7_split_26 (fun r_7 hw => ?_)
        refine lv_if_ne (tgt := 36) hx hb dX7_split_29 (by decide) (fun c_8 => ?_) (fun c_8 => ?_)
        · replace hw := hw.1 c_8
          refine lv_iconst (v := 0) hx hb dX7_split_36 (by decide) ?_
          refine lv_istore (lv' := [(5, .int 0), (0, .ref (ad 0)), (1, .int a1), (2, .int a2), (3, .int a3), (4, .int a4)]) hx hb dX7_split_37 hl (by decide) rfl (fun ls hl => ?_)
          refine lv_lconst (v := 0) hx hb dX7_split_39 (by decide) ?_
          refine lv_lstore (lv' := [(6, .long 0), (5, .int 0), (0, .ref (ad 0)), (1, .int a1), (2, .int a2), (3, .int a3), (4, .int a4)]) hx hb dX7_split_40 hl (by decide) rfl (fun ls hl => ?_)
          refine lv_iconst (v := 0) hx hb dX7_split_42 (by decide) ?_
          refine lv_istore (lv' := [(8, .int 0), (6, .long 0), (5, .int 0), (0, .ref (ad 0)), (1, .int a1), (2, .int a2), (3, .int a3), (4, .int a4)]) hx hb dX7_split_43 hl (by decide) rfl (fun ls hl => ?_)
          obtain ⟨n_33, hw⟩ := hw
          refine kwm_split_L45 X hr _ _ _ _ _   ?_ n_33 _ _ _ _ _ _ _ _ P (lv_sub hl [3, 4, 5, 6, 7, 2, 1, 0] rfl) hw
          · intro F_28 Ar_29 x5_30 x6_31 H locs ls P hl hw
            refine lv_iload hx hb dX7_split_134 (lv_at hl 1 rfl) ?_
            refine lv_if_ne (tgt := 145) hx hb dX7_split_136 (by decide) (fun c_32 => ?_) (fun c_32 => ?_)
            · replace hw := hw.1 c_32
              refine lv_lload hx hb dX7_split_145 (lv_at hl 3 rfl) ?_
              exact m_lret X P hr hw dX7_split_147
            · replace hw := hw.2 c_32
              refine lv_iload hx hb dX7_split_139 (lv_at hl 2 rfl) ?_
              refine lv_i2l hx hb dX7_split_141 rfl ?_
              refine lv_goto (tgt := 147) hx hb dX7_split_142 (by decide) ?_
              exact m_lret X P hr hw dX7_split_147
        · replace hw := hw.2 c_8
          refine lv_ldc2 (v := (-4611686018427387904)) hx hb hown (hts _ q1656) dX7_split_32 ?_
          exact m_lret X P hr hw dX7_split_35
end MM3
