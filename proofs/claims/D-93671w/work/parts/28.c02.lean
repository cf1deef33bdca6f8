/-! by gen/comp.py: methods of the class, 2 -/
set_option maxRecDepth 100000
section CC2
variable {p : Program} {l : Launch} {e : Env} {R : Room} {s : State} {m : MethodId} {args : Array Value} {below : List Frame} {meth : Method} {c : Code}
variable {cc : ByteArray} {nL pc : Nat} {ls : Array Slot} {rest : List Value} {D : va_G} {G ad : Nat → Nat} {Kd : tK} {U : tU} {T : tT} {zz : Int32}
-- sticks
def wc_sticks_L106 (Kd : tK) (T : tT) (F : tF) (Ar : tA) (y5_19 : Int32) (y8_19 : Int64) (Kx131_19 : Int64 → Prop) (Q : Int64 → tF → tA → Prop) : Nat → Int64 → Int64 → Prop
  | 0, _, _ => False
  | f106 + 1, y10_19, y12_19 =>
    ((y12_19 = 0 → (Kx131_19 y10_19)) ∧ (¬ y12_19 = 0 → ¬ y12_19 = 0 ∧ ∀ x14_21 : Int64, x14_21 = (y10_19 - y10_19 / y12_19 * y12_19) → ((wc_sticks_L106 Kd T F Ar y5_19 y8_19 Kx131_19 Q f106) y12_19 x14_21)))
set_option maxHeartbeats 4000000 in
theorem kwc_sticks_L106 {Q : Int64 → tF → tA → Prop} (X : cCx p s m args meth c cX0_sticks 16 RX0 D G) (hr : meth.sig.returnType = (some .long)) (Kd : tK) (T : tT) (F : tF) (Ar : tA) (y5_19 : Int32) (y8_19 : Int64) (Kx131_19 : Int64 → Prop) (hKx131_19 : ∀ (w10_ : Int64) (H : Heap) (locs : List Loc) (ls : Array Slot), cP D (cReg G ad Kd U zz s.heap.size) G ad s.heap Kd U T zz F Ar H locs → lv_has ls 16 [(0, .ref (ad 0)), (5, .int y5_19), (8, .long y8_19), (10, .long w10_)] → Kx131_19 w10_ → W p l e ({ frames := 205, cells := 0, slots := 0, locals := 4730 }) s m args below meth c H locs 0 0 (MQ below (cQl D G ad Kd U T zz s.heap.size Q) args s 0 0 (cReg G ad Kd U zz s.heap.size)) (F0 m 131 ls [])) : ∀ (n : Nat) (y10_19 : Int64) (y12_19 : Int64) (H : Heap) (locs : List Loc) (ls : Array Slot), cP D (cReg G ad Kd U zz s.heap.size) G ad s.heap Kd U T zz F Ar H locs → lv_has ls 16 [(0, .ref (ad 0)), (5, .int y5_19), (8, .long y8_19), (10, .long y10_19), (12, .long y12_19)] → wc_sticks_L106 Kd T F Ar y5_19 y8_19 Kx131_19 Q n y10_19 y12_19 → W p l e ({ frames := 205, cells := 0, slots := 0, locals := 4730 }) s m args below meth c H locs 0 0 (MQ below (cQl D G ad Kd U T zz s.heap.size Q) args s 0 0 (cReg G ad Kd U zz s.heap.size)) (F0 m 106 ls []) := by
  obtain ⟨hx, hb, hml, hown, hts, -, hlk, -⟩ := id X
  have S : CallFix p m c _ _ s args lw_all RX0 := ⟨hx, hb, hml, hown, hts⟩
  intro n
  induction n with
  | zero =>
    intro y10_19 y12_19 H locs ls P hl hw
    exact hw.elim
  | succ n ih =>
    intro y10_19 y12_19 H locs ls P hl hw
    have hKh106_19 := ih
    refine lv_lload hx hb dX0_sticks_106 (lv_at hl 4 rfl) ?_
    refine lv_lconst (v := 0) hx hb dX0_sticks_108 (by decide) ?_
    refine lc_eq (tgt := 131) hx hb dX0_sticks_109 dX0_sticks_110 (by decide) (fun c_20 => ?_) (fun c_20 => ?_)
    · replace hw := hw.1 c_20
      exact hKx131_19 _ _ _ _ P (lv_sub hl [0, 1, 2, 3] rfl) hw
    · replace hw := hw.2 c_20
      refine lv_lload hx hb dX0_sticks_113 (lv_at hl 3 rfl) ?_
      refine lv_lload hx hb dX0_sticks_115 (lv_at hl 4 rfl) ?_
      refine lv_lrem hx hb dX0_sticks_117 hw.1 ?_
      replace hw := hw.2
      refine lv_topl (fun x14_21 ex14_21 => ?_)
      replace hw := hw x14_21 ex14_21
      refine lv_lstore (lv' := [(14, .long x14_21), (0, .ref (ad 0)), (5, .int y5_19), (8, .long y8_19), (10, .long y10_19), (12, .long y12_19)]) hx hb dX0_sticks_118 hl (by decide) rfl (fun ls hl => ?_)
      refine lv_lload hx hb dX0_sticks_120 (lv_at hl 5 rfl) ?_
      refine lv_lstore (lv' := [(10, .long y12_19), (14, .long x14_21), (0, .ref (ad 0)), (5, .int y5_19), (8, .long y8_19), (12, .long y12_19)]) hx hb dX0_sticks_122 hl (by decide) rfl (fun ls hl => ?_)
      refine lv_lload hx hb dX0_sticks_124 (lv_at hl 1 rfl) ?_
      refine lv_lstore (lv' := [(12, .long x14_21), (10, .long y12_19), (14, .long x14_21), (0, .ref (ad 0)), (5, .int y5_19), (8, .long y8_19)]) hx hb dX0_sticks_126 hl (by decide) rfl (fun ls hl => ?_)
      refine lv_goto (tgt := 106) hx hb dX0_sticks_128 (by decide) ?_
      exact hKh106_19 _ _ _ _ _ P (lv_sub hl [3, 4, 5, 1, 0] rfl) hw
def wc_sticks_J144 (Kd : tK) (T : tT) (F : tF) (Ar : tA) (y10_24 : Int64) (z0_24 : Int64) (Q : Int64 → tF → tA → Prop) : Prop :=
  ¬ y10_24 = 0 ∧ Q (z0_24 / y10_24) F Ar
set_option maxHeartbeats 4000000 in
theorem kwc_sticks_J144 {Q : Int64 → tF → tA → Prop} (X : cCx p s m args meth c cX0_sticks 16 RX0 D G) (hr : meth.sig.returnType = (some .long)) {F : tF} {Ar : tA} (y10_24 : Int64) (z0_24 : Int64) {H : Heap} {locs : List Loc} {ls : Array Slot} (P : cP D (cReg G ad Kd U zz s.heap.size) G ad s.heap Kd U T zz F Ar H locs) (hl : lv_has ls 16 [(0, .ref (ad 0)), (10, .long y10_24)]) (hw : wc_sticks_J144 Kd T F Ar y10_24 z0_24 Q) : W p l e ({ frames := 205, cells := 0, slots := 0, locals := 4730 }) s m args below meth c H locs 0 0 (MQ below (cQl D G ad Kd U T zz s.heap.size Q) args s 0 0 (cReg G ad Kd U zz s.heap.size)) (F0 m 144 ls [.long z0_24]) := by
  obtain ⟨hx, hb, hml, hown, hts, -, hlk, -⟩ := id X
  have S : CallFix p m c _ _ s args lw_all RX0 := ⟨hx, hb, hml, hown, hts⟩
  refine lv_lload hx hb dX0_sticks_144 (lv_at hl 1 rfl) ?_
  refine lv_ldiv hx hb dX0_sticks_146 hw.1 ?_
  replace hw := hw.2
  exact c_lret X P hr hw dX0_sticks_147
def wc_sticks (Kd : tK) (T : tT) (F : tF) (Ar : tA) (a1 : Int32) (a2 : Int32) (a3 : Int32) (a4 : Int32) (a5 : Int32) (Q : Int64 → tF → tA → Prop) : Prop :=
  wc_in (a4.toInt64) 0 10 (fun r_1 => ((r_1 = 0 → Q (-4611686018427387904) F Ar) ∧ (¬ r_1 = 0 → wc_in (a5.toInt64) 0 1 (fun r_3 => ((¬ r_3 = 0 → wc_beside Kd T F Ar a1 a2 a3 0 (fun r_5 F_6 Ar_7 => ((¬ r_5 = (-4611686018427387904) → (¬ a1 < 0 ∧ a1 < F_6 32) ∧ wc_runs Kd T F_6 Ar_7 (a1.toNatClampNeg) (fun F_11 Ar_12 => (¬ a1 < 0 ∧ a1 < F_11 32) ∧ wc_whole Kd T F_11 Ar_12 (a1.toNatClampNeg) (fun r_14 F_15 Ar_16 => ∀ x8_17 : Int64, x8_17 = ((10 * r_14) + ((a4.toInt64) * r_5)) → ∀ x10_18 : Int64, x10_18 = (if 0 < x8_17 then x8_17 else -x8_17) → (∃ n106, wc_sticks_L106 Kd T F_15 Ar_16 a5 x8_17 (fun (x10_22 : Int64) => ((¬ a5 = 0 → (wc_sticks_J144 Kd T F_15 Ar_16 x10_22 10 Q)) ∧ (a5 = 0 → (wc_sticks_J144 Kd T F_15 Ar_16 x10_22 x8_17 Q)))) Q n106 x10_18 10)))) ∧ (r_5 = (-4611686018427387904) → Q (-4611686018427387904) F_6 Ar_7)))) ∧ (r_3 = 0 → Q (-4611686018427387904) F Ar))))))
set_option maxHeartbeats 4000000 in
theorem twc_sticks (l : Launch) (D : va_G) (G ad : Nat → Nat) (Kd : tK) (U : tU) (T : tT) (zz : Int32) (F : tF) (Ar : tA) (a1 : Int32) (a2 : Int32) (a3 : Int32) (a4 : Int32) (a5 : Int32) (sz : Nat) (Q : Int64 → tF → tA → Prop) (hw : wc_sticks Kd T F Ar a1 a2 a3 a4 a5 Q) : Met l yX0_sticks (ws_ yX0_sticks cX0_sticks 16 (some .long)) ({ frames := 205, cells := 0, slots := 0, locals := 4730 }) (va_Pc [.ref (ad 0), .int a1, .int a2, .int a3, .int a4, .int a5] (cPb D G ad Kd U T zz F Ar sz)) (cQl D G ad Kd U T zz sz Q) 0 0 (cReg G ad Kd U zz sz) := by
  refine c_entry (by decide) (Nat.le_of_ble_eq_true rfl) ?_
  intro p e s m args below meth c ls X hr hsz P hl
  subst hsz
  have X : cCx p s m args meth c cX0_sticks 16 RX0 D G := X
  obtain ⟨hx, hb, hml, hown, hts, -, hlk, -⟩ := id X
  have S : CallFix p m c _ _ s _ lw_all RX0 := ⟨hx, hb, hml, hown, hts⟩
  have hl : lv_has ls 16 [(0, .ref (ad 0)), (1, .int a1), (2, .int a2), (3, .int a3), (4, .int a4), (5, .int a5)] := hl
  refine lv_iload hx hb dX0_sticks_0 (lv_at hl 4 rfl) ?_
  refine lv_i2l hx hb dX0_sticks_2 rfl ?_
  refine lv_lconst (v := 0) hx hb dX0_sticks_3 (by decide) ?_
  refine lv_ldc2 (v := 10) hx hb hown (hts _ q1157) dX0_sticks_4 ?_
  refine cwc_in S hw ⟨Nat.le_of_ble_eq_true rfl, Nat.le_of_ble_eq_true rfl⟩ ⟨Nat.zero_le _, Nat.zero_le _⟩ hl.1 (Nat.le_of_ble_eq_true rfl) dX0_sticks_7 (fun r_1 hw => ?_)
  refine lv_if_eq (tgt := 24) hx hb dX0_sticks_10 (by decide) (fun c_2 => ?_) (fun c_2 => ?_)
  · replace hw := hw.1 c_2
    refine lv_ldc2 (v := (-4611686018427387904)) hx hb hown (hts _ q1099) dX0_sticks_24 ?_
    exact c_lret X P hr hw dX0_sticks_27
  · replace hw := hw.2 c_2
    refine lv_iload hx hb dX0_sticks_13 (lv_at hl 5 rfl) ?_
    refine lv_i2l hx hb dX0_sticks_15 rfl ?_
    refine lv_lconst (v := 0) hx hb dX0_sticks_16 (by decide) ?_
    refine lv_lconst (v := 1) hx hb dX0_sticks_17 (by decide) ?_
    refine cwc_in S hw ⟨Nat.le_of_ble_eq_true rfl, Nat.le_of_ble_eq_true rfl⟩ ⟨Nat.zero_le _, Nat.zero_le _⟩ hl.1 (Nat.le_of_ble_eq_true rfl) dX0_sticks_18 (fun r_3 hw => ?_)
    refine lv_if_ne (tgt := 28) hx hb dX0_sticks_21 (by decide) (fun c_4 => ?_) (fun c_4 => ?_)
    · replace hw := hw.1 c_4
      refine lv_aload_n hx hb dX0_sticks_28 rfl (lv_at hl 0 rfl) ?_
      refine lv_iload_n hx hb dX0_sticks_29 rfl (lv_at hl 1 rfl) ?_
      refine lv_iload_n hx hb dX0_sticks_30 rfl (lv_at hl 2 rfl) ?_
      refine lv_iload_n hx hb dX0_sticks_31 rfl (lv_at hl 3 rfl) ?_
      refine lv_iconst (v := 0) hx hb dX0_sticks_32 (by decide) ?_
      refine cwc_beside X P (fun _ h => Or.inr h) hw ⟨Nat.le_of_ble_eq_true rfl, Nat.le_of_ble_eq_true rfl⟩ ⟨Nat.zero_le _, Nat.zero_le _⟩ hl.1 (Nat.le_of_ble_eq_true rfl) dX0_sticks_33 (fun r_5 F_6 Ar_7 H locs hw P => ?_)
      refine lv_lstore (lv' := [(6, .long r_5), (0, .ref (ad 0)), (1, .int a1), (2, .int a2), (3, .int a3), (4, .int a4), (5, .int a5)]) hx hb dX0_sticks_36 hl (by decide) rfl (fun ls hl => ?_)
      refine lv_lload hx hb dX0_sticks_38 (lv_at hl 0 rfl) ?_
      refine lv_ldc2 (v := (-4611686018427387904)) hx hb hown (hts _ q1099) dX0_sticks_40 ?_
      refine lc_ne (tgt := 51) hx hb dX0_sticks_43 dX0_sticks_44 (by decide) (fun c_8 => ?_) (fun c_8 => ?_)
      · replace hw := hw.1 c_8
        refine lv_aload_n hx hb dX0_sticks_51 rfl (lv_at hl 1 rfl) ?_
        refine lv_aload_n hx hb dX0_sticks_52 rfl (lv_at hl 1 rfl) ?_
        refine cg_ways X P dX0_sticks_53 ?_
        refine lv_iload_n hx hb dX0_sticks_56 rfl (lv_at hl 2 rfl) ?_
        refine c_lget X P hw.1.1 hw.1.2 ⟨Nat.le_of_ble_eq_true rfl, Nat.le_of_ble_eq_true rfl⟩ hl.1 (Nat.le_of_ble_eq_true rfl) ⟨Nat.zero_le _, Nat.zero_le _⟩ dX0_sticks_57 (fun hk_9 => ?_)
        replace hw := hw.2
        refine c_castW X P hk_9 dX0_sticks_60 ?_
        refine cwc_runs X P (fun _ h => Or.inr h) hw ⟨Nat.le_of_ble_eq_true rfl, Nat.le_of_ble_eq_true rfl⟩ ⟨Nat.zero_le _, Nat.zero_le _⟩ hl.1 (Nat.le_of_ble_eq_true rfl) dX0_sticks_63 (fun F_11 Ar_12 H locs hw P => ?_)
        refine lv_ldc2 (v := 10) hx hb hown (hts _ q1157) dX0_sticks_66 ?_
        refine lv_aload_n hx hb dX0_sticks_69 rfl (lv_at hl 1 rfl) ?_
        refine lv_aload_n hx hb dX0_sticks_70 rfl (lv_at hl 1 rfl) ?_
        refine cg_ways X P dX0_sticks_71 ?_
        refine lv_iload_n hx hb dX0_sticks_74 rfl (lv_at hl 2 rfl) ?_
        refine c_lget X P hw.1.1 hw.1.2 ⟨Nat.le_of_ble_eq_true rfl, Nat.le_of_ble_eq_true rfl⟩ hl.1 (Nat.le_of_ble_eq_true rfl) ⟨Nat.zero_le _, Nat.zero_le _⟩ dX0_sticks_75 (fun hk_13 => ?_)
        replace hw := hw.2
        refine c_castW X P hk_13 dX0_sticks_78 ?_
        refine cwc_whole X P (fun _ h => Or.inr h) hw ⟨Nat.le_of_ble_eq_true rfl, Nat.le_of_ble_eq_true rfl⟩ ⟨Nat.zero_le _, Nat.zero_le _⟩ hl.1 (Nat.le_of_ble_eq_true rfl) dX0_sticks_81 (fun r_14 F_15 Ar_16 H locs hw P => ?_)
        refine lv_lmul hx hb dX0_sticks_84 ?_
        refine lv_iload hx hb dX0_sticks_85 (lv_at hl 5 rfl) ?_
        refine lv_i2l hx hb dX0_sticks_87 rfl ?_
        refine lv_lload hx hb dX0_sticks_88 (lv_at hl 0 rfl) ?_
        refine lv_lmul hx hb dX0_sticks_90 ?_
        refine lv_ladd hx hb dX0_sticks_91 ?_
        refine lv_topl (fun x8_17 ex8_17 => ?_)
        replace hw := hw x8_17 ex8_17
        refine lv_lstore (lv' := [(8, .long x8_17), (6, .long r_5), (0, .ref (ad 0)), (1, .int a1), (2, .int a2), (3, .int a3), (4, .int a4), (5, .int a5)]) hx hb dX0_sticks_92 hl (by decide) rfl (fun ls hl => ?_)
        refine lv_lload hx hb dX0_sticks_94 (lv_at hl 0 rfl) ?_
        refine c_abs X ⟨Nat.le_of_ble_eq_true rfl, Nat.le_of_ble_eq_true rfl⟩ hl.1 (Nat.le_of_ble_eq_true rfl) ⟨Nat.zero_le _, Nat.zero_le _⟩ dX0_sticks_96 ?_
        refine lv_topl (fun x10_18 ex10_18 => ?_)
        replace hw := hw x10_18 ex10_18
        refine lv_lstore (lv' := [(10, .long x10_18), (8, .long x8_17), (6, .long r_5), (0, .ref (ad 0)), (1, .int a1), (2, .int a2), (3, .int a3), (4, .int a4), (5, .int a5)]) hx hb dX0_sticks_99 hl (by decide) rfl (fun ls hl => ?_)
        refine lv_ldc2 (v := 10) hx hb hown (hts _ q1157) dX0_sticks_101 ?_
        refine lv_lstore (lv' := [(12, .long 10), (10, .long x10_18), (8, .long x8_17), (6, .long r_5), (0, .ref (ad 0)), (1, .int a1), (2, .int a2), (3, .int a3), (4, .int a4), (5, .int a5)]) hx hb dX0_sticks_104 hl (by decide) rfl (fun ls hl => ?_)
        obtain ⟨n_25, hw⟩ := hw
        refine kwc_sticks_L106 X hr _ _ _ _ _ _ _   ?_ n_25 _ _ _ _ _ P (lv_sub hl [4, 9, 2, 1, 0] rfl) hw
        · intro x10_22 H locs ls P hl hw
          refine lv_iload hx hb dX0_sticks_131 (lv_at hl 1 rfl) ?_
          refine lv_if_ne (tgt := 141) hx hb dX0_sticks_133 (by decide) (fun c_23 => ?_) (fun c_23 => ?_)
          · replace hw := hw.1 c_23
            refine lv_ldc2 (v := 10) hx hb hown (hts _ q1157) dX0_sticks_141 ?_
            exact kwc_sticks_J144 X hr _ _ P (lv_sub hl [0, 3] rfl) hw
          · replace hw := hw.2 c_23
            refine lv_lload hx hb dX0_sticks_136 (lv_at hl 2 rfl) ?_
            refine lv_goto (tgt := 144) hx hb dX0_sticks_138 (by decide) ?_
            exact kwc_sticks_J144 X hr _ _ P (lv_sub hl [0, 3] rfl) hw
      · replace hw := hw.2 c_8
        refine lv_ldc2 (v := (-4611686018427387904)) hx hb hown (hts _ q1099) dX0_sticks_47 ?_
        exact c_lret X P hr hw dX0_sticks_50
    · replace hw := hw.2 c_4
      refine lv_ldc2 (v := (-4611686018427387904)) hx hb hown (hts _ q1099) dX0_sticks_24 ?_
      exact c_lret X P hr hw dX0_sticks_27
-- count
def wc_count (Kd : tK) (T : tT) (F : tF) (Ar : tA) (a1 : Int32) (Q : Int32 → Prop) : Prop :=
  ((a1 = 0 → Q (F 6)) ∧ (¬ a1 = 0 → ((a1 = 1 → Q (F 7)) ∧ (¬ a1 = 1 → ((a1 = 2 → Q (F 32)) ∧ (¬ a1 = 2 → ((a1 = 3 → Q (F 28)) ∧ (¬ a1 = 3 → ((a1 = 4 → Q (F 10)) ∧ (¬ a1 = 4 → ((a1 = 5 → Q (F 30)) ∧ (¬ a1 = 5 → Q (-2)))))))))))))
set_option maxHeartbeats 4000000 in
theorem twc_count (l : Launch) (D : va_G) (G ad : Nat → Nat) (Kd : tK) (U : tU) (T : tT) (zz : Int32) (F : tF) (Ar : tA) (a1 : Int32) (sz : Nat) (Q : Int32 → Prop) (hw : wc_count Kd T F Ar a1 Q) : Met l yX0_count (ws_ yX0_count cX0_count 2 (some .int)) ({ frames := 1, cells := 0, slots := 0, locals := 20 }) (va_Pc [.ref (ad 0), .int a1] (cPb D G ad Kd U T zz F Ar sz)) (vp_Si Q) 0 0 (fun _ => False) := by
  refine c_entry (by decide) (Nat.le_of_ble_eq_true rfl) ?_
  intro p e s m args below meth c ls X hr hsz P hl
  subst hsz
  have X : cCx p s m args meth c cX0_count 2 RX0 D G := X
  obtain ⟨hx, hb, hml, hown, hts, -, hlk, -⟩ := id X
  have S : CallFix p m c _ _ s _ lw_all RX0 := ⟨hx, hb, hml, hown, hts⟩
  have hl : lv_has ls 2 [(0, .ref (ad 0)), (1, .int a1)] := hl
  refine lv_iload_n hx hb dX0_count_0 rfl (lv_at hl 1 rfl) ?_
  by_cases c_1 : a1 = 0
  · replace hw := hw.1 c_1
    refine ts_in (off := 39) (tgt := 40) hx hb dX0_count_1 0 c_1 (by decide) (by decide) ?_
    refine lv_aload_n hx hb dX0_count_40 rfl (lv_at hl 0 rfl) ?_
    refine cg_sorts X P dX0_count_41 ?_
    exact r_iret hx hb hlk hr hw dX0_count_44
  · replace hw := hw.2 c_1
    by_cases c_2 : a1 = 1
    · replace hw := hw.1 c_2
      refine ts_in (off := 44) (tgt := 45) hx hb dX0_count_1 1 c_2 (by decide) (by decide) ?_
      refine lv_aload_n hx hb dX0_count_45 rfl (lv_at hl 0 rfl) ?_
      refine cg_carts X P dX0_count_46 ?_
      exact r_iret hx hb hlk hr hw dX0_count_49
    · replace hw := hw.2 c_2
      by_cases c_3 : a1 = 2
      · replace hw := hw.1 c_3
        refine ts_in (off := 49) (tgt := 50) hx hb dX0_count_1 2 c_3 (by decide) (by decide) ?_
        refine lv_aload_n hx hb dX0_count_50 rfl (lv_at hl 0 rfl) ?_
        refine cg_ways X P dX0_count_51 ?_
        refine c_lsize X P ⟨Nat.le_of_ble_eq_true rfl, Nat.le_of_ble_eq_true rfl⟩ hl.1 (Nat.le_of_ble_eq_true rfl) ⟨Nat.zero_le _, Nat.zero_le _⟩ dX0_count_54 ?_
        exact r_iret hx hb hlk hr hw dX0_count_57
      · replace hw := hw.2 c_3
        by_cases c_4 : a1 = 3
        · replace hw := hw.1 c_4
          refine ts_in (off := 57) (tgt := 58) hx hb dX0_count_1 3 c_4 (by decide) (by decide) ?_
          refine lv_aload_n hx hb dX0_count_58 rfl (lv_at hl 0 rfl) ?_
          refine cg_textCount X P dX0_count_59 ?_
          exact r_iret hx hb hlk hr hw dX0_count_62
        · replace hw := hw.2 c_4
          by_cases c_5 : a1 = 4
          · replace hw := hw.1 c_5
            refine ts_in (off := 62) (tgt := 63) hx hb dX0_count_1 4 c_5 (by decide) (by decide) ?_
            refine lv_aload_n hx hb dX0_count_63 rfl (lv_at hl 0 rfl) ?_
            refine cg_rule X P dX0_count_64 ?_
            exact r_iret hx hb hlk hr hw dX0_count_67
          · replace hw := hw.2 c_5
            by_cases c_6 : a1 = 5
            · replace hw := hw.1 c_6
              refine ts_in (off := 67) (tgt := 68) hx hb dX0_count_1 5 c_6 (by decide) (by decide) ?_
              refine lv_aload_n hx hb dX0_count_68 rfl (lv_at hl 0 rfl) ?_
              refine cg_taped X P dX0_count_69 ?_
              exact r_iret hx hb hlk hr hw dX0_count_72
            · replace hw := hw.2 c_6
              refine lv_tableOut (tgt := 73) hx hb dX0_count_1 (by have z0 : a1.toInt ≠ 0 := i32_ne c_1; have z1 : a1.toInt ≠ 1 := i32_ne c_2; have z2 : a1.toInt ≠ 2 := i32_ne c_3; have z3 : a1.toInt ≠ 3 := i32_ne c_4; have z4 : a1.toInt ≠ 4 := i32_ne c_5; have z5 : a1.toInt ≠ 5 := i32_ne c_6; omega) (by decide) ?_
              refine lv_bipush (v := (-2)) hx hb dX0_count_73 (by decide) ?_
              exact r_iret hx hb hlk hr hw dX0_count_75
-- wishes
def wc_wishes (Kd : tK) (T : tT) (F : tF) (Ar : tA) (a1 : Int32) (a2 : Int32) (Q : Int32 → tF → tA → Prop) : Prop :=
  wc_isSort Kd T F Ar a1 (fun r_1 => ((¬ r_1 = 0 → wc_isMinute a2 (fun r_3 => ((¬ r_3 = 0 → vp_in a1 4 ∧ ∀ x3_5 : Int32, x3_5 = (Ar 3 a1.toNatClampNeg) → vp_in a1 4 ∧ ∀ Ar_6 : tA, Ar_6 = aset Ar 3 a1.toNatClampNeg a2 → Q x3_5 F Ar_6) ∧ (r_3 = 0 → Q (-7) F Ar)))) ∧ (r_1 = 0 → Q (-5) F Ar)))
set_option maxHeartbeats 4000000 in
theorem twc_wishes (l : Launch) (D : va_G) (G ad : Nat → Nat) (Kd : tK) (U : tU) (T : tT) (zz : Int32) (F : tF) (Ar : tA) (a1 : Int32) (a2 : Int32) (sz : Nat) (Q : Int32 → tF → tA → Prop) (hw : wc_wishes Kd T F Ar a1 a2 Q) : Met l yX0_wishes (ws_ yX0_wishes cX0_wishes 4 (some .int)) ({ frames := 2, cells := 0, slots := 0, locals := 46 }) (va_Pc [.ref (ad 0), .int a1, .int a2] (cPb D G ad Kd U T zz F Ar sz)) (cQi D G ad Kd U T zz sz Q) 0 0 (cReg G ad Kd U zz sz) := by
  refine c_entry (by decide) (Nat.le_of_ble_eq_true rfl) ?_
  intro p e s m args below meth c ls X hr hsz P hl
  subst hsz
  have X : cCx p s m args meth c cX0_wishes 4 RX0 D G := X
  obtain ⟨hx, hb, hml, hown, hts, -, hlk, -⟩ := id X
  have S : CallFix p m c _ _ s _ lw_all RX0 := ⟨hx, hb, hml, hown, hts⟩
  have hl : lv_has ls 4 [(0, .ref (ad 0)), (1, .int a1), (2, .int a2)] := hl
  refine lv_aload_n hx hb dX0_wishes_0 rfl (lv_at hl 0 rfl) ?_
  refine lv_iload_n hx hb dX0_wishes_1 rfl (lv_at hl 1 rfl) ?_
  refine cwc_isSort X P (fun _ h => Or.inr h) hw ⟨Nat.le_of_ble_eq_true rfl, Nat.le_of_ble_eq_true rfl⟩ ⟨Nat.zero_le _, Nat.zero_le _⟩ hl.1 (Nat.le_of_ble_eq_true rfl) dX0_wishes_2 (fun r_1 hw => ?_)
  refine lv_if_ne (tgt := 11) hx hb dX0_wishes_5 (by decide) (fun c_2 => ?_) (fun c_2 => ?_)
  · replace hw := hw.1 c_2
    refine lv_iload_n hx hb dX0_wishes_11 rfl (lv_at hl 2 rfl) ?_
    refine cwc_isMinute S hw ⟨Nat.le_of_ble_eq_true rfl, Nat.le_of_ble_eq_true rfl⟩ ⟨Nat.zero_le _, Nat.zero_le _⟩ hl.1 (Nat.le_of_ble_eq_true rfl) dX0_wishes_12 (fun r_3 hw => ?_)
    refine lv_if_ne (tgt := 21) hx hb dX0_wishes_15 (by decide) (fun c_4 => ?_) (fun c_4 => ?_)
    · replace hw := hw.1 c_4
      refine lv_aload_n hx hb dX0_wishes_21 rfl (lv_at hl 0 rfl) ?_
      refine cg_wish X P dX0_wishes_22 ?_
      refine lv_iload_n hx hb dX0_wishes_25 rfl (lv_at hl 1 rfl) ?_
      refine c_iald X P (rfl : cArr Kd 3 = some (0, 4)) hw.1 dX0_wishes_26 ?_
      replace hw := hw.2
      refine lv_topi (fun x3_5 ex3_5 => ?_)
      replace hw := hw x3_5 ex3_5
      refine lv_istore_n (lv' := [(3, .int x3_5), (0, .ref (ad 0)), (1, .int a1), (2, .int a2)]) hx hb dX0_wishes_27 rfl hl (by decide) rfl (fun ls hl => ?_)
      refine lv_aload_n hx hb dX0_wishes_28 rfl (lv_at hl 1 rfl) ?_
      refine cg_wish X P dX0_wishes_29 ?_
      refine lv_iload_n hx hb dX0_wishes_32 rfl (lv_at hl 2 rfl) ?_
      refine lv_iload_n hx hb dX0_wishes_33 rfl (lv_at hl 3 rfl) ?_
      refine c_iast X P (rfl : cArr Kd 3 = some (0, 4)) hw.1 dX0_wishes_34 (fun Ar_6 H locs eAr_6 P _ => ?_)
      replace hw := hw.2
      replace hw := hw Ar_6 eAr_6
      refine lv_iload_n hx hb dX0_wishes_35 rfl (lv_at hl 0 rfl) ?_
      exact c_iret X P hr hw dX0_wishes_36
    · replace hw := hw.2 c_4
      refine lv_bipush (v := (-7)) hx hb dX0_wishes_18 (by decide) ?_
      exact c_iret X P hr hw dX0_wishes_20
  · replace hw := hw.2 c_2
    refine lv_bipush (v := (-5)) hx hb dX0_wishes_8 (by decide) ?_
    exact c_iret X P hr hw dX0_wishes_10
-- feed
def wc_feed_L35 (Kd : tK) (T : tT) (y1_5 : Int64) (Kx74_5 : tF → tA → Prop) (Q : Int32 → tF → tA → Prop) : Nat → tF → tA → Int32 → Prop
  | 0, _, _, _ => False
  | f35 + 1, F, Ar, y4_5 =>
    ((y4_5 < 0 → (Kx74_5 F Ar)) ∧ (¬ y4_5 < 0 → vp_in (F 30) 160 ∧ ∀ Ar_7 : tA, Ar_7 = aset Ar 30 (F 30).toNatClampNeg (vp_nar .byte (((y1_5 >>> ((8 * y4_5).toInt64 &&& 63)).toInt32).toInt8.toInt32)) → ∀ F_8 : tF, F_8 = upd F 30 ((F 30) + 1) → ((wc_feed_L35 Kd T y1_5 Kx74_5 Q f35) F_8 Ar_7 (y4_5 + (-1)))))
set_option maxHeartbeats 4000000 in
theorem kwc_feed_L35 {Q : Int32 → tF → tA → Prop} (X : cCx p s m args meth c cX0_feed 5 RX0 D G) (hr : meth.sig.returnType = (some .int)) (Kd : tK) (T : tT) (y1_5 : Int64) (Kx74_5 : tF → tA → Prop) (hKx74_5 : ∀ (F_ : tF) (Ar_ : tA) (H : Heap) (locs : List Loc) (ls : Array Slot), cP D (cReg G ad Kd U zz s.heap.size) G ad s.heap Kd U T zz F_ Ar_ H locs → lv_has ls 5 [(0, .ref (ad 0))] → Kx74_5 F_ Ar_ → W p l e ({ frames := 1, cells := 0, slots := 0, locals := 25 }) s m args below meth c H locs 0 0 (MQ below (cQi D G ad Kd U T zz s.heap.size Q) args s 0 0 (cReg G ad Kd U zz s.heap.size)) (F0 m 74 ls [])) : ∀ (n : Nat) (F : tF) (Ar : tA) (y4_5 : Int32) (H : Heap) (locs : List Loc) (ls : Array Slot), cP D (cReg G ad Kd U zz s.heap.size) G ad s.heap Kd U T zz F Ar H locs → lv_has ls 5 [(0, .ref (ad 0)), (1, .long y1_5), (4, .int y4_5)] → wc_feed_L35 Kd T y1_5 Kx74_5 Q n F Ar y4_5 → W p l e ({ frames := 1, cells := 0, slots := 0, locals := 25 }) s m args below meth c H locs 0 0 (MQ below (cQi D G ad Kd U T zz s.heap.size Q) args s 0 0 (cReg G ad Kd U zz s.heap.size)) (F0 m 35 ls []) := by
  obtain ⟨hx, hb, hml, hown, hts, -, hlk, -⟩ := id X
  have S : CallFix p m c _ _ s args lw_all RX0 := ⟨hx, hb, hml, hown, hts⟩
  intro n
  induction n with
  | zero =>
    intro F Ar y4_5 H locs ls P hl hw
    exact hw.elim
  | succ n ih =>
    intro F Ar y4_5 H locs ls P hl hw
    have hKh35_5 := ih
    refine lv_iload hx hb dX0_feed_35 (lv_at hl 2 rfl) ?_
    refine lv_if_lt (tgt := 74) hx hb dX0_feed_37 (by decide) (fun c_6 => ?_) (fun c_6 => ?_)
    · replace hw := hw.1 c_6
      exact hKx74_5 _ _ _ _ _ P (lv_sub hl [0] rfl) hw
    · replace hw := hw.2 c_6
      refine lv_aload_n hx hb dX0_feed_40 rfl (lv_at hl 0 rfl) ?_
      refine cg_tape X P dX0_feed_41 ?_
      refine lv_aload_n hx hb dX0_feed_44 rfl (lv_at hl 0 rfl) ?_
      refine cg_taped X P dX0_feed_45 ?_
      refine lv_lload_n hx hb dX0_feed_48 rfl (lv_at hl 1 rfl) ?_
      refine lv_bipush (v := 8) hx hb dX0_feed_49 (by decide) ?_
      refine lv_iload hx hb dX0_feed_51 (lv_at hl 2 rfl) ?_
      refine lv_imul hx hb dX0_feed_53 ?_
      refine lv_lshr hx hb dX0_feed_54 rfl ?_
      refine lv_l2i hx hb dX0_feed_55 rfl ?_
      refine lv_i2b hx hb dX0_feed_56 rfl ?_
      refine c_bast X P (rfl : cArr Kd 30 = some (1, 160)) hw.1 dX0_feed_57 (fun Ar_7 H locs eAr_7 P _ => ?_)
      replace hw := hw.2
      replace hw := hw Ar_7 eAr_7
      refine lv_aload_n hx hb dX0_feed_58 rfl (lv_at hl 0 rfl) ?_
      refine lv_dup hx hb dX0_feed_59 rfl ?_
      refine cg_taped X P dX0_feed_60 ?_
      refine lv_iconst (v := 1) hx hb dX0_feed_63 (by decide) ?_
      refine lv_iadd hx hb dX0_feed_64 ?_
      refine cp_taped X P dX0_feed_65 (fun F_8 H locs eF_8 P _ => ?_)
      replace hw := hw F_8 eF_8
      refine lv_iinc (v := (y4_5 + (-1))) (lv' := [(4, .int (y4_5 + (-1))), (0, .ref (ad 0)), (1, .long y1_5)]) hx hb dX0_feed_68 hl (k := 2) rfl rfl (by decide) rfl (fun ls hl => ?_)
      refine lv_goto (tgt := 35) hx hb dX0_feed_71 (by decide) ?_
      exact hKh35_5 _ _ _ _ _ _ P (lv_sub hl [1, 2, 0] rfl) hw
def wc_feed (Kd : tK) (T : tT) (F : tF) (Ar : tA) (a1 : Int64) (a2 : Int32) (Q : Int32 → tF → tA → Prop) : Prop :=
  wc_in (a2.toInt64) 1 8 (fun r_1 => ((¬ r_1 = 0 → ((((F 30) + a2) ≤ 160 → ∀ x4_4 : Int32, x4_4 = (a2 - 1) → (∃ n35, wc_feed_L35 Kd T a1 (fun (F_9 : tF) (Ar_10 : tA) => Q (F_9 30) F_9 Ar_10) Q n35 F Ar x4_4)) ∧ (¬ ((F 30) + a2) ≤ 160 → Q (-4) F Ar))) ∧ (r_1 = 0 → Q (-2) F Ar)))
set_option maxHeartbeats 4000000 in
theorem twc_feed (l : Launch) (D : va_G) (G ad : Nat → Nat) (Kd : tK) (U : tU) (T : tT) (zz : Int32) (F : tF) (Ar : tA) (a1 : Int64) (a2 : Int32) (sz : Nat) (Q : Int32 → tF → tA → Prop) (hw : wc_feed Kd T F Ar a1 a2 Q) : Met l yX0_feed (ws_ yX0_feed cX0_feed 5 (some .int)) ({ frames := 1, cells := 0, slots := 0, locals := 25 }) (va_Pc [.ref (ad 0), .long a1, .int a2] (cPb D G ad Kd U T zz F Ar sz)) (cQi D G ad Kd U T zz sz Q) 0 0 (cReg G ad Kd U zz sz) := by
  refine c_entry (by decide) (Nat.le_of_ble_eq_true rfl) ?_
  intro p e s m args below meth c ls X hr hsz P hl
  subst hsz
  have X : cCx p s m args meth c cX0_feed 5 RX0 D G := X
  obtain ⟨hx, hb, hml, hown, hts, -, hlk, -⟩ := id X
  have S : CallFix p m c _ _ s _ lw_all RX0 := ⟨hx, hb, hml, hown, hts⟩
  have hl : lv_has ls 5 [(0, .ref (ad 0)), (1, .long a1), (3, .int a2)] := hl
  refine lv_iload_n hx hb dX0_feed_0 rfl (lv_at hl 2 rfl) ?_
  refine lv_i2l hx hb dX0_feed_1 rfl ?_
  refine lv_lconst (v := 1) hx hb dX0_feed_2 (by decide) ?_
  refine lv_ldc2 (v := 8) hx hb hown (hts _ q1121) dX0_feed_3 ?_
  refine cwc_in S hw ⟨Nat.le_of_ble_eq_true rfl, Nat.le_of_ble_eq_true rfl⟩ ⟨Nat.zero_le _, Nat.zero_le _⟩ hl.1 (Nat.le_of_ble_eq_true rfl) dX0_feed_6 (fun r_1 hw => ?_)
  refine lv_if_ne (tgt := 15) hx hb dX0_feed_9 (by decide) (fun c_2 => ?_) (fun c_2 => ?_)
  · replace hw := hw.1 c_2
    refine lv_aload_n hx hb dX0_feed_15 rfl (lv_at hl 0 rfl) ?_
    refine cg_taped X P dX0_feed_16 ?_
    refine lv_iload_n hx hb dX0_feed_19 rfl (lv_at hl 2 rfl) ?_
    refine lv_iadd hx hb dX0_feed_20 ?_
    refine lv_sipush (v := 160) hx hb dX0_feed_21 (by decide) ?_
    refine lv_icmp_le (tgt := 30) hx hb dX0_feed_24 (by decide) (fun c_3 => ?_) (fun c_3 => ?_)
    · replace hw := hw.1 c_3
      refine lv_iload_n hx hb dX0_feed_30 rfl (lv_at hl 2 rfl) ?_
      refine lv_iconst (v := 1) hx hb dX0_feed_31 (by decide) ?_
      refine lv_isub hx hb dX0_feed_32 ?_
      refine lv_topi (fun x4_4 ex4_4 => ?_)
      replace hw := hw x4_4 ex4_4
      refine lv_istore (lv' := [(4, .int x4_4), (0, .ref (ad 0)), (1, .long a1), (3, .int a2)]) hx hb dX0_feed_33 hl (by decide) rfl (fun ls hl => ?_)
      obtain ⟨n_11, hw⟩ := hw
      refine kwc_feed_L35 X hr _ _ _ _   ?_ n_11 _ _ _ _ _ _ P (lv_sub hl [1, 2, 0] rfl) hw
      · intro F_9 Ar_10 H locs ls P hl hw
        refine lv_aload_n hx hb dX0_feed_74 rfl (lv_at hl 0 rfl) ?_
        refine cg_taped X P dX0_feed_75 ?_
        exact c_iret X P hr hw dX0_feed_78
    · replace hw := hw.2 c_3
      refine lv_bipush (v := (-4)) hx hb dX0_feed_27 (by decide) ?_
      exact c_iret X P hr hw dX0_feed_29
  · replace hw := hw.2 c_2
    refine lv_bipush (v := (-2)) hx hb dX0_feed_12 (by decide) ?_
    exact c_iret X P hr hw dX0_feed_14
-- force
def wc_force (Kd : tK) (T : tT) (F : tF) (Ar : tA) (a1 : Int32) (Q : Int32 → tF → tA → Prop) : Prop :=
  wc_in (a1.toInt64) 0 (((F 28).toInt64) - 1) (fun r_1 => ((¬ r_1 = 0 → ∀ x2_3 : Int32, x2_3 = (F 10) → ∀ F_4 : tF, F_4 = upd F 10 a1 → Q x2_3 F_4 Ar) ∧ (r_1 = 0 → Q (-2) F Ar)))
set_option maxHeartbeats 4000000 in
theorem twc_force (l : Launch) (D : va_G) (G ad : Nat → Nat) (Kd : tK) (U : tU) (T : tT) (zz : Int32) (F : tF) (Ar : tA) (a1 : Int32) (sz : Nat) (Q : Int32 → tF → tA → Prop) (hw : wc_force Kd T F Ar a1 Q) : Met l yX0_force (ws_ yX0_force cX0_force 3 (some .int)) ({ frames := 1, cells := 0, slots := 0, locals := 25 }) (va_Pc [.ref (ad 0), .int a1] (cPb D G ad Kd U T zz F Ar sz)) (cQi D G ad Kd U T zz sz Q) 0 0 (cReg G ad Kd U zz sz) := by
  refine c_entry (by decide) (Nat.le_of_ble_eq_true rfl) ?_
  intro p e s m args below meth c ls X hr hsz P hl
  subst hsz
  have X : cCx p s m args meth c cX0_force 3 RX0 D G := X
  obtain ⟨hx, hb, hml, hown, hts, -, hlk, -⟩ := id X
  have S : CallFix p m c _ _ s _ lw_all RX0 := ⟨hx, hb, hml, hown, hts⟩
  have hl : lv_has ls 3 [(0, .ref (ad 0)), (1, .int a1)] := hl
  refine lv_iload_n hx hb dX0_force_0 rfl (lv_at hl 1 rfl) ?_
  refine lv_i2l hx hb dX0_force_1 rfl ?_
  refine lv_lconst (v := 0) hx hb dX0_force_2 (by decide) ?_
  refine lv_aload_n hx hb dX0_force_3 rfl (lv_at hl 0 rfl) ?_
  refine cg_textCount X P dX0_force_4 ?_
  refine lv_i2l hx hb dX0_force_7 rfl ?_
  refine lv_lconst (v := 1) hx hb dX0_force_8 (by decide) ?_
  refine lv_lsub hx hb dX0_force_9 ?_
  refine cwc_in S hw ⟨Nat.le_of_ble_eq_true rfl, Nat.le_of_ble_eq_true rfl⟩ ⟨Nat.zero_le _, Nat.zero_le _⟩ hl.1 (Nat.le_of_ble_eq_true rfl) dX0_force_10 (fun r_1 hw => ?_)
  refine lv_if_ne (tgt := 19) hx hb dX0_force_13 (by decide) (fun c_2 => ?_) (fun c_2 => ?_)
  · replace hw := hw.1 c_2
    refine lv_aload_n hx hb dX0_force_19 rfl (lv_at hl 0 rfl) ?_
    refine cg_rule X P dX0_force_20 ?_
    refine lv_topi (fun x2_3 ex2_3 => ?_)
    replace hw := hw x2_3 ex2_3
    refine lv_istore_n (lv' := [(2, .int x2_3), (0, .ref (ad 0)), (1, .int a1)]) hx hb dX0_force_23 rfl hl (by decide) rfl (fun ls hl => ?_)
    refine lv_aload_n hx hb dX0_force_24 rfl (lv_at hl 1 rfl) ?_
    refine lv_iload_n hx hb dX0_force_25 rfl (lv_at hl 2 rfl) ?_
    refine cp_rule X P dX0_force_26 (fun F_4 H locs eF_4 P _ => ?_)
    replace hw := hw F_4 eF_4
    refine lv_iload_n hx hb dX0_force_29 rfl (lv_at hl 0 rfl) ?_
    exact c_iret X P hr hw dX0_force_30
  · replace hw := hw.2 c_2
    refine lv_bipush (v := (-2)) hx hb dX0_force_16 (by decide) ?_
    exact c_iret X P hr hw dX0_force_18
-- isCart
def wc_isCart (Kd : tK) (T : tT) (F : tF) (Ar : tA) (a1 : Int32) (Q : Int32 → Prop) : Prop :=
  wc_in (a1.toInt64) 0 (((F 7).toInt64) - 1) (fun r_1 => (r_1 = 0 ∨ r_1 = 1) ∧ Q r_1)
set_option maxHeartbeats 4000000 in
theorem twc_isCart (l : Launch) (D : va_G) (G ad : Nat → Nat) (Kd : tK) (U : tU) (T : tT) (zz : Int32) (F : tF) (Ar : tA) (a1 : Int32) (sz : Nat) (Q : Int32 → Prop) (hw : wc_isCart Kd T F Ar a1 Q) : Met l yX0_isCart (ws_ yX0_isCart cX0_isCart 2 (some .boolean)) ({ frames := 1, cells := 0, slots := 0, locals := 25 }) (va_Pc [.ref (ad 0), .int a1] (cPb D G ad Kd U T zz F Ar sz)) (vp_Si Q) 0 0 (fun _ => False) := by
  refine c_entry (by decide) (Nat.le_of_ble_eq_true rfl) ?_
  intro p e s m args below meth c ls X hr hsz P hl
  subst hsz
  have X : cCx p s m args meth c cX0_isCart 2 RX0 D G := X
  obtain ⟨hx, hb, hml, hown, hts, -, hlk, -⟩ := id X
  have S : CallFix p m c _ _ s _ lw_all RX0 := ⟨hx, hb, hml, hown, hts⟩
  have hl : lv_has ls 2 [(0, .ref (ad 0)), (1, .int a1)] := hl
  refine lv_iload_n hx hb dX0_isCart_0 rfl (lv_at hl 1 rfl) ?_
  refine lv_i2l hx hb dX0_isCart_1 rfl ?_
  refine lv_lconst (v := 0) hx hb dX0_isCart_2 (by decide) ?_
  refine lv_aload_n hx hb dX0_isCart_3 rfl (lv_at hl 0 rfl) ?_
  refine cg_carts X P dX0_isCart_4 ?_
  refine lv_i2l hx hb dX0_isCart_7 rfl ?_
  refine lv_lconst (v := 1) hx hb dX0_isCart_8 (by decide) ?_
  refine lv_lsub hx hb dX0_isCart_9 ?_
  refine cwc_in S hw ⟨Nat.le_of_ble_eq_true rfl, Nat.le_of_ble_eq_true rfl⟩ ⟨Nat.zero_le _, Nat.zero_le _⟩ hl.1 (Nat.le_of_ble_eq_true rfl) dX0_isCart_10 (fun r_1 hw => ?_)
  exact r_zret hx hb hlk hr hw.1 hw.2 dX0_isCart_13
theorem cwc_isCart {Q : Int32 → Prop} {a1 : Int32} {Z : State → Prop} {A : Nat → Prop} {cells slots : Nat} {H : Heap} {locs : List Loc} {F : tF} {Ar : tA} (X : cCx p s m args meth c cc nL RX0 D G) (P : cP D A G ad s.heap Kd U T zz F Ar H locs) (hA : ∀ q, s.heap.size ≤ q → A q) (hw : wc_isCart Kd T F Ar a1 Q) (hR : 1 + 1 ≤ R.frames ∧ 8 + (2 + 11) + 25 ≤ R.locals) (hC : cells ≤ R.cells ∧ slots ≤ R.slots) (hls : ls.size = nL) (hst : (rest.map fun v => v.category).sum ≤ 8) (hdg : decode cc pc = .ok (.invokevirtual 374, 3)) (kk : ∀ r, Q r → W p l e R s m args below meth c H locs cells slots Z (F0 m (pc + 3) ls (.int r :: rest))) : W p l e R s m args below meth c H locs cells slots Z (F0 m pc ls (.int a1 :: .ref (ad 0) :: rest)) := by
  obtain ⟨hx, hb, hml, hown, hts, hK, hlk, hN⟩ := id X
  exact vp_callSi (vrun_call (va_runV (C := RX0) (As := [.int a1]) (rest := rest) ⟨hx, hb, hml, hown, hts⟩ (twc_isCart l D G ad Kd U T zz F Ar a1 H.size Q hw) (cwV 1 hts (lw_V q1261 q1263 qs33 q64 q1264) rfl rfl rfl (by decide +kernel) hR) (c_prev X P) rfl rfl hls rfl (lv_room hst) hdg hC)) kk
end CC2
