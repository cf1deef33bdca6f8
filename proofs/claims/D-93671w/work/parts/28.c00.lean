/-! by gen/comp.py: methods of the class, 0 -/
set_option maxRecDepth 100000
section CC0
variable {p : Program} {l : Launch} {e : Env} {R : Room} {s : State} {m : MethodId} {args : Array Value} {below : List Frame} {meth : Method} {c : Code}
variable {cc : ByteArray} {nL pc : Nat} {ls : Array Slot} {rest : List Value} {D : va_G} {G ad : Nat → Nat} {Kd : tK} {U : tU} {T : tT} {zz : Int32}
-- in
def wc_in (a1 : Int64) (a2 : Int64) (a3 : Int64) (Q : Int32 → Prop) : Prop :=
  ((a1 < a2 → Q 0) ∧ (¬ a1 < a2 → ((a3 < a1 → Q 0) ∧ (¬ a3 < a1 → Q 1))))
set_option maxHeartbeats 4000000 in
theorem twc_in (l : Launch) (a1 : Int64) (a2 : Int64) (a3 : Int64) (Q : Int32 → Prop) (hw : wc_in a1 a2 a3 Q) : Met l yX0_in (ws_ yX0_in cX0_in 6 (some .boolean)) ({ frames := 0, cells := 0, slots := 0, locals := 0 }) (va_Pc [.long a1, .long a2, .long a3] (fun _ => True)) (vp_Si Q) 0 0 (fun _ => False) := by
  refine s_entry (by decide) (Nat.le_of_ble_eq_true rfl) ?_
  intro p e s m below meth c ls hx hb hml hown hts hlk hr hl
  have hown : s.vm.findClass RX0 = some m.cls := hown
  have X : sCx p s m _ meth c cX0_in 6 RX0 := ⟨hx, hb, hml, hown, hts, hlk⟩
  have S : CallFix p m c _ _ s _ lw_all RX0 := ⟨hx, hb, hml, hown, hts⟩
  have hl : lv_has ls 6 [(0, .long a1), (2, .long a2), (4, .long a3)] := hl
  refine lv_lload_n hx hb dX0_in_0 rfl (lv_at hl 0 rfl) ?_
  refine lv_lload_n hx hb dX0_in_1 rfl (lv_at hl 1 rfl) ?_
  refine lc_lt (tgt := 17) hx hb dX0_in_2 dX0_in_3 (by decide) (fun c_1 => ?_) (fun c_1 => ?_)
  · replace hw := hw.1 c_1
    refine lv_iconst (v := 0) hx hb dX0_in_17 (by decide) ?_
    exact r_zret hx hb hlk hr (Or.inl rfl) hw dX0_in_18
  · replace hw := hw.2 c_1
    refine lv_lload_n hx hb dX0_in_6 rfl (lv_at hl 0 rfl) ?_
    refine lv_lload hx hb dX0_in_7 (lv_at hl 2 rfl) ?_
    refine lc_gt (tgt := 17) hx hb dX0_in_9 dX0_in_10 (by decide) (fun c_2 => ?_) (fun c_2 => ?_)
    · replace hw := hw.1 c_2
      refine lv_iconst (v := 0) hx hb dX0_in_17 (by decide) ?_
      exact r_zret hx hb hlk hr (Or.inl rfl) hw dX0_in_18
    · replace hw := hw.2 c_2
      refine lv_iconst (v := 1) hx hb dX0_in_13 (by decide) ?_
      refine lv_goto (tgt := 18) hx hb dX0_in_14 (by decide) ?_
      exact r_zret hx hb hlk hr (Or.inr rfl) hw dX0_in_18
theorem cwc_in {Q : Int32 → Prop} {a1 : Int64} {a2 : Int64} {a3 : Int64} {Z : State → Prop} {cells slots : Nat} {H : Heap} {locs : List Loc} (S : CallFix p m c cc nL s args lw_all RX0) (hw : wc_in a1 a2 a3 Q) (hR : 0 + 1 ≤ R.frames ∧ 8 + (6 + 11) + 0 ≤ R.locals) (hC : cells ≤ R.cells ∧ slots ≤ R.slots) (hls : ls.size = nL) (hst : (rest.map fun v => v.category).sum ≤ 8) (hdg : decode cc pc = .ok (.invokestatic 119, 3)) (kk : ∀ r, Q r → W p l e R s m args below meth c H locs cells slots Z (F0 m (pc + 3) ls (.int r :: rest))) : W p l e R s m args below meth c H locs cells slots Z (F0 m pc ls (.long a3 :: .long a2 :: .long a1 :: rest)) :=
  vp_callSi (s_runR (as := [.long a1, .long a2, .long a3]) S (twc_in l a1 a2 a3 Q hw) (va_cwS 3 S.2.2.2.2 (lw_S q753 q263 q64 q264) rfl rfl rfl (by decide +kernel) hR) rfl hls hst hdg hC) kk
-- isGate
def wc_isGate (a1 : Int32) (Q : Int32 → Prop) : Prop :=
  wc_in (a1.toInt64) 0 1 (fun r_1 => (r_1 = 0 ∨ r_1 = 1) ∧ Q r_1)
set_option maxHeartbeats 4000000 in
theorem twc_isGate (l : Launch) (a1 : Int32) (Q : Int32 → Prop) (hw : wc_isGate a1 Q) : Met l yX0_isGate (ws_ yX0_isGate cX0_isGate 1 (some .boolean)) ({ frames := 1, cells := 0, slots := 0, locals := 25 }) (va_Pc [.int a1] (fun _ => True)) (vp_Si Q) 0 0 (fun _ => False) := by
  refine s_entry (by decide) (Nat.le_of_ble_eq_true rfl) ?_
  intro p e s m below meth c ls hx hb hml hown hts hlk hr hl
  have hown : s.vm.findClass RX0 = some m.cls := hown
  have X : sCx p s m _ meth c cX0_isGate 1 RX0 := ⟨hx, hb, hml, hown, hts, hlk⟩
  have S : CallFix p m c _ _ s _ lw_all RX0 := ⟨hx, hb, hml, hown, hts⟩
  have hl : lv_has ls 1 [(0, .int a1)] := hl
  refine lv_iload_n hx hb dX0_isGate_0 rfl (lv_at hl 0 rfl) ?_
  refine lv_i2l hx hb dX0_isGate_1 rfl ?_
  refine lv_lconst (v := 0) hx hb dX0_isGate_2 (by decide) ?_
  refine lv_lconst (v := 1) hx hb dX0_isGate_3 (by decide) ?_
  refine cwc_in S hw ⟨Nat.le_of_ble_eq_true rfl, Nat.le_of_ble_eq_true rfl⟩ ⟨Nat.zero_le _, Nat.zero_le _⟩ hl.1 (Nat.le_of_ble_eq_true rfl) dX0_isGate_4 (fun r_1 hw => ?_)
  exact r_zret hx hb hlk hr hw.1 hw.2 dX0_isGate_7
theorem cwc_isGate {Q : Int32 → Prop} {a1 : Int32} {Z : State → Prop} {cells slots : Nat} {H : Heap} {locs : List Loc} (S : CallFix p m c cc nL s args lw_all RX0) (hw : wc_isGate a1 Q) (hR : 1 + 1 ≤ R.frames ∧ 8 + (1 + 11) + 25 ≤ R.locals) (hC : cells ≤ R.cells ∧ slots ≤ R.slots) (hls : ls.size = nL) (hst : (rest.map fun v => v.category).sum ≤ 8) (hdg : decode cc pc = .ok (.invokestatic 135, 3)) (kk : ∀ r, Q r → W p l e R s m args below meth c H locs cells slots Z (F0 m (pc + 3) ls (.int r :: rest))) : W p l e R s m args below meth c H locs cells slots Z (F0 m pc ls (.int a1 :: rest)) :=
  vp_callSi (s_runR (as := [.int a1]) S (twc_isGate l a1 Q hw) (va_cwS 1 S.2.2.2.2 (lw_S q750 q751 q64 q752) rfl rfl rfl (by decide +kernel) hR) rfl hls hst hdg hC) kk
-- isMinute
def wc_isMinute (a1 : Int32) (Q : Int32 → Prop) : Prop :=
  wc_in (a1.toInt64) 0 23 (fun r_1 => (r_1 = 0 ∨ r_1 = 1) ∧ Q r_1)
set_option maxHeartbeats 4000000 in
theorem twc_isMinute (l : Launch) (a1 : Int32) (Q : Int32 → Prop) (hw : wc_isMinute a1 Q) : Met l yX0_isMinute (ws_ yX0_isMinute cX0_isMinute 1 (some .boolean)) ({ frames := 1, cells := 0, slots := 0, locals := 25 }) (va_Pc [.int a1] (fun _ => True)) (vp_Si Q) 0 0 (fun _ => False) := by
  refine s_entry (by decide) (Nat.le_of_ble_eq_true rfl) ?_
  intro p e s m below meth c ls hx hb hml hown hts hlk hr hl
  have hown : s.vm.findClass RX0 = some m.cls := hown
  have X : sCx p s m _ meth c cX0_isMinute 1 RX0 := ⟨hx, hb, hml, hown, hts, hlk⟩
  have S : CallFix p m c _ _ s _ lw_all RX0 := ⟨hx, hb, hml, hown, hts⟩
  have hl : lv_has ls 1 [(0, .int a1)] := hl
  refine lv_iload_n hx hb dX0_isMinute_0 rfl (lv_at hl 0 rfl) ?_
  refine lv_i2l hx hb dX0_isMinute_1 rfl ?_
  refine lv_lconst (v := 0) hx hb dX0_isMinute_2 (by decide) ?_
  refine lv_ldc2 (v := 23) hx hb hown (hts _ q757) dX0_isMinute_3 ?_
  refine cwc_in S hw ⟨Nat.le_of_ble_eq_true rfl, Nat.le_of_ble_eq_true rfl⟩ ⟨Nat.zero_le _, Nat.zero_le _⟩ hl.1 (Nat.le_of_ble_eq_true rfl) dX0_isMinute_6 (fun r_1 hw => ?_)
  exact r_zret hx hb hlk hr hw.1 hw.2 dX0_isMinute_9
theorem cwc_isMinute {Q : Int32 → Prop} {a1 : Int32} {Z : State → Prop} {cells slots : Nat} {H : Heap} {locs : List Loc} (S : CallFix p m c cc nL s args lw_all RX0) (hw : wc_isMinute a1 Q) (hR : 1 + 1 ≤ R.frames ∧ 8 + (1 + 11) + 25 ≤ R.locals) (hC : cells ≤ R.cells ∧ slots ≤ R.slots) (hls : ls.size = nL) (hst : (rest.map fun v => v.category).sum ≤ 8) (hdg : decode cc pc = .ok (.invokestatic 139, 3)) (kk : ∀ r, Q r → W p l e R s m args below meth c H locs cells slots Z (F0 m (pc + 3) ls (.int r :: rest))) : W p l e R s m args below meth c H locs cells slots Z (F0 m pc ls (.int a1 :: rest)) :=
  vp_callSi (s_runR (as := [.int a1]) S (twc_isMinute l a1 Q hw) (va_cwS 1 S.2.2.2.2 (lw_S q754 q755 q64 q756) rfl rfl rfl (by decide +kernel) hR) rfl hls hst hdg hC) kk
-- rate
def wc_rate_L63 (Kd : tK) (T : tT) (F : tF) (y1_10 : Int32) (y3_10 : Int32) (y4_10 : Int32) (y5_10 : Int32) (Q : Int32 → tF → tA → Prop) : Nat → tA → Int32 → Prop
  | 0, _, _ => False
  | f63 + 1, Ar, y6_10 =>
    ((y3_10 ≤ y6_10 → Q y5_10 F Ar) ∧ (¬ y3_10 ≤ y6_10 → vp_in ((24 * y1_10) + y6_10) 48 ∧ ∀ Ar_12 : tA, Ar_12 = aset Ar 1 ((24 * y1_10) + y6_10).toNatClampNeg y4_10 → ((wc_rate_L63 Kd T F y1_10 y3_10 y4_10 y5_10 Q f63) Ar_12 (y6_10 + 1))))
set_option maxHeartbeats 4000000 in
theorem kwc_rate_L63 {Q : Int32 → tF → tA → Prop} (X : cCx p s m args meth c cX0_rate 7 RX0 D G) (hr : meth.sig.returnType = (some .int)) (Kd : tK) (T : tT) (F : tF) (y1_10 : Int32) (y3_10 : Int32) (y4_10 : Int32) (y5_10 : Int32) : ∀ (n : Nat) (Ar : tA) (y6_10 : Int32) (H : Heap) (locs : List Loc) (ls : Array Slot), cP D (cReg G ad Kd U zz s.heap.size) G ad s.heap Kd U T zz F Ar H locs → lv_has ls 7 [(0, .ref (ad 0)), (1, .int y1_10), (3, .int y3_10), (4, .int y4_10), (5, .int y5_10), (6, .int y6_10)] → wc_rate_L63 Kd T F y1_10 y3_10 y4_10 y5_10 Q n Ar y6_10 → W p l e ({ frames := 2, cells := 0, slots := 0, locals := 45 }) s m args below meth c H locs 0 0 (MQ below (cQi D G ad Kd U T zz s.heap.size Q) args s 0 0 (cReg G ad Kd U zz s.heap.size)) (F0 m 63 ls []) := by
  obtain ⟨hx, hb, hml, hown, hts, -, hlk, -⟩ := id X
  have S : CallFix p m c _ _ s args lw_all RX0 := ⟨hx, hb, hml, hown, hts⟩
  intro n
  induction n with
  | zero =>
    intro Ar y6_10 H locs ls P hl hw
    exact hw.elim
  | succ n ih =>
    intro Ar y6_10 H locs ls P hl hw
    have hKh63_10 := ih
    refine lv_iload hx hb dX0_rate_63 (lv_at hl 5 rfl) ?_
    refine lv_iload_n hx hb dX0_rate_65 rfl (lv_at hl 2 rfl) ?_
    refine lv_icmp_ge (tgt := 89) hx hb dX0_rate_66 (by decide) (fun c_11 => ?_) (fun c_11 => ?_)
    · replace hw := hw.1 c_11
      refine lv_iload hx hb dX0_rate_89 (lv_at hl 4 rfl) ?_
      exact c_iret X P hr hw dX0_rate_91
    · replace hw := hw.2 c_11
      refine lv_aload_n hx hb dX0_rate_69 rfl (lv_at hl 0 rfl) ?_
      refine cg_rate X P dX0_rate_70 ?_
      refine lv_bipush (v := 24) hx hb dX0_rate_73 (by decide) ?_
      refine lv_iload_n hx hb dX0_rate_75 rfl (lv_at hl 1 rfl) ?_
      refine lv_imul hx hb dX0_rate_76 ?_
      refine lv_iload hx hb dX0_rate_77 (lv_at hl 5 rfl) ?_
      refine lv_iadd hx hb dX0_rate_79 ?_
      refine lv_iload hx hb dX0_rate_80 (lv_at hl 3 rfl) ?_
      refine c_iast X P (rfl : cArr Kd 1 = some (0, 48)) hw.1 dX0_rate_82 (fun Ar_12 H locs eAr_12 P _ => ?_)
      replace hw := hw.2
      replace hw := hw Ar_12 eAr_12
      refine lv_iinc (v := (y6_10 + 1)) (lv' := [(6, .int (y6_10 + 1)), (0, .ref (ad 0)), (1, .int y1_10), (3, .int y3_10), (4, .int y4_10), (5, .int y5_10)]) hx hb dX0_rate_83 hl (k := 5) rfl rfl (by decide) rfl (fun ls hl => ?_)
      refine lv_goto (tgt := 63) hx hb dX0_rate_86 (by decide) ?_
      exact hKh63_10 _ _ _ _ _ P (lv_sub hl [1, 2, 3, 4, 5, 0] rfl) hw
def wc_rate (Kd : tK) (T : tT) (F : tF) (Ar : tA) (a1 : Int32) (a2 : Int32) (a3 : Int32) (a4 : Int32) (Q : Int32 → tF → tA → Prop) : Prop :=
  wc_isGate a1 (fun r_1 => ((r_1 = 0 → Q (-1) F Ar) ∧ (¬ r_1 = 0 → wc_isMinute a2 (fun r_3 => ((¬ r_3 = 0 → wc_in (a3.toInt64) ((a2.toInt64) + 1) 24 (fun r_5 => ((r_5 = 0 → Q (-2) F Ar) ∧ (¬ r_5 = 0 → wc_in (a4.toInt64) 0 9 (fun r_7 => ((¬ r_7 = 0 → vp_in ((24 * a1) + a2) 48 ∧ ∀ x5_9 : Int32, x5_9 = (Ar 1 ((24 * a1) + a2).toNatClampNeg) → (∃ n63, wc_rate_L63 Kd T F a1 a3 a4 x5_9 Q n63 Ar a2)) ∧ (r_7 = 0 → Q (-2) F Ar))))))) ∧ (r_3 = 0 → Q (-1) F Ar))))))
set_option maxHeartbeats 4000000 in
theorem twc_rate (l : Launch) (D : va_G) (G ad : Nat → Nat) (Kd : tK) (U : tU) (T : tT) (zz : Int32) (F : tF) (Ar : tA) (a1 : Int32) (a2 : Int32) (a3 : Int32) (a4 : Int32) (sz : Nat) (Q : Int32 → tF → tA → Prop) (hw : wc_rate Kd T F Ar a1 a2 a3 a4 Q) : Met l yX0_rate (ws_ yX0_rate cX0_rate 7 (some .int)) ({ frames := 2, cells := 0, slots := 0, locals := 45 }) (va_Pc [.ref (ad 0), .int a1, .int a2, .int a3, .int a4] (cPb D G ad Kd U T zz F Ar sz)) (cQi D G ad Kd U T zz sz Q) 0 0 (cReg G ad Kd U zz sz) := by
  refine c_entry (by decide) (Nat.le_of_ble_eq_true rfl) ?_
  intro p e s m args below meth c ls X hr hsz P hl
  subst hsz
  have X : cCx p s m args meth c cX0_rate 7 RX0 D G := X
  obtain ⟨hx, hb, hml, hown, hts, -, hlk, -⟩ := id X
  have S : CallFix p m c _ _ s _ lw_all RX0 := ⟨hx, hb, hml, hown, hts⟩
  have hl : lv_has ls 7 [(0, .ref (ad 0)), (1, .int a1), (2, .int a2), (3, .int a3), (4, .int a4)] := hl
  refine lv_iload_n hx hb dX0_rate_0 rfl (lv_at hl 1 rfl) ?_
  refine cwc_isGate S hw ⟨Nat.le_of_ble_eq_true rfl, Nat.le_of_ble_eq_true rfl⟩ ⟨Nat.zero_le _, Nat.zero_le _⟩ hl.1 (Nat.le_of_ble_eq_true rfl) dX0_rate_1 (fun r_1 hw => ?_)
  refine lv_if_eq (tgt := 14) hx hb dX0_rate_4 (by decide) (fun c_2 => ?_) (fun c_2 => ?_)
  · replace hw := hw.1 c_2
    refine lv_iconst (v := (-1)) hx hb dX0_rate_14 (by decide) ?_
    exact c_iret X P hr hw dX0_rate_15
  · replace hw := hw.2 c_2
    refine lv_iload_n hx hb dX0_rate_7 rfl (lv_at hl 2 rfl) ?_
    refine cwc_isMinute S hw ⟨Nat.le_of_ble_eq_true rfl, Nat.le_of_ble_eq_true rfl⟩ ⟨Nat.zero_le _, Nat.zero_le _⟩ hl.1 (Nat.le_of_ble_eq_true rfl) dX0_rate_8 (fun r_3 hw => ?_)
    refine lv_if_ne (tgt := 16) hx hb dX0_rate_11 (by decide) (fun c_4 => ?_) (fun c_4 => ?_)
    · replace hw := hw.1 c_4
      refine lv_iload_n hx hb dX0_rate_16 rfl (lv_at hl 3 rfl) ?_
      refine lv_i2l hx hb dX0_rate_17 rfl ?_
      refine lv_iload_n hx hb dX0_rate_18 rfl (lv_at hl 2 rfl) ?_
      refine lv_i2l hx hb dX0_rate_19 rfl ?_
      refine lv_lconst (v := 1) hx hb dX0_rate_20 (by decide) ?_
      refine lv_ladd hx hb dX0_rate_21 ?_
      refine lv_ldc2 (v := 24) hx hb hown (hts _ q758) dX0_rate_22 ?_
      refine cwc_in S hw ⟨Nat.le_of_ble_eq_true rfl, Nat.le_of_ble_eq_true rfl⟩ ⟨Nat.zero_le _, Nat.zero_le _⟩ hl.1 (Nat.le_of_ble_eq_true rfl) dX0_rate_25 (fun r_5 hw => ?_)
      refine lv_if_eq (tgt := 44) hx hb dX0_rate_28 (by decide) (fun c_6 => ?_) (fun c_6 => ?_)
      · replace hw := hw.1 c_6
        refine lv_bipush (v := (-2)) hx hb dX0_rate_44 (by decide) ?_
        exact c_iret X P hr hw dX0_rate_46
      · replace hw := hw.2 c_6
        refine lv_iload hx hb dX0_rate_31 (lv_at hl 4 rfl) ?_
        refine lv_i2l hx hb dX0_rate_33 rfl ?_
        refine lv_lconst (v := 0) hx hb dX0_rate_34 (by decide) ?_
        refine lv_ldc2 (v := 9) hx hb hown (hts _ q759) dX0_rate_35 ?_
        refine cwc_in S hw ⟨Nat.le_of_ble_eq_true rfl, Nat.le_of_ble_eq_true rfl⟩ ⟨Nat.zero_le _, Nat.zero_le _⟩ hl.1 (Nat.le_of_ble_eq_true rfl) dX0_rate_38 (fun r_7 hw => ?_)
        refine lv_if_ne (tgt := 47) hx hb dX0_rate_41 (by decide) (fun c_8 => ?_) (fun c_8 => ?_)
        · replace hw := hw.1 c_8
          refine lv_aload_n hx hb dX0_rate_47 rfl (lv_at hl 0 rfl) ?_
          refine cg_rate X P dX0_rate_48 ?_
          refine lv_bipush (v := 24) hx hb dX0_rate_51 (by decide) ?_
          refine lv_iload_n hx hb dX0_rate_53 rfl (lv_at hl 1 rfl) ?_
          refine lv_imul hx hb dX0_rate_54 ?_
          refine lv_iload_n hx hb dX0_rate_55 rfl (lv_at hl 2 rfl) ?_
          refine lv_iadd hx hb dX0_rate_56 ?_
          refine c_iald X P (rfl : cArr Kd 1 = some (0, 48)) hw.1 dX0_rate_57 ?_
          replace hw := hw.2
          refine lv_topi (fun x5_9 ex5_9 => ?_)
          replace hw := hw x5_9 ex5_9
          refine lv_istore (lv' := [(5, .int x5_9), (0, .ref (ad 0)), (1, .int a1), (2, .int a2), (3, .int a3), (4, .int a4)]) hx hb dX0_rate_58 hl (by decide) rfl (fun ls hl => ?_)
          refine lv_iload_n hx hb dX0_rate_60 rfl (lv_at hl 3 rfl) ?_
          refine lv_istore (lv' := [(6, .int a2), (5, .int x5_9), (0, .ref (ad 0)), (1, .int a1), (2, .int a2), (3, .int a3), (4, .int a4)]) hx hb dX0_rate_61 hl (by decide) rfl (fun ls hl => ?_)
          obtain ⟨n_13, hw⟩ := hw
          refine kwc_rate_L63 X hr _ _ _ _ _ _ _    n_13 _ _ _ _ _ P (lv_sub hl [2, 3, 5, 6, 1, 0] rfl) hw
        · replace hw := hw.2 c_8
          refine lv_bipush (v := (-2)) hx hb dX0_rate_44 (by decide) ?_
          exact c_iret X P hr hw dX0_rate_46
    · replace hw := hw.2 c_4
      refine lv_iconst (v := (-1)) hx hb dX0_rate_14 (by decide) ?_
      exact c_iret X P hr hw dX0_rate_15
theorem cwc_rate {Q : Int32 → tF → tA → Prop} {a1 : Int32} {a2 : Int32} {a3 : Int32} {a4 : Int32} {Z : State → Prop} {A : Nat → Prop} {cells slots : Nat} {H : Heap} {locs : List Loc} {F : tF} {Ar : tA} (X : cCx p s m args meth c cc nL RX0 D G) (P : cP D A G ad s.heap Kd U T zz F Ar H locs) (hA : ∀ q, s.heap.size ≤ q → A q) (hw : wc_rate Kd T F Ar a1 a2 a3 a4 Q) (hR : 2 + 1 ≤ R.frames ∧ 8 + (7 + 11) + 45 ≤ R.locals) (hC : cells ≤ R.cells ∧ slots ≤ R.slots) (hls : ls.size = nL) (hst : (rest.map fun v => v.category).sum ≤ 8) (hdg : decode cc pc = .ok (.invokevirtual 369, 3)) (kk : ∀ (r : Int32) (F1 : tF) (A1 : tA) (H1 : Heap) (locs1 : List Loc), Q r F1 A1 → cP D A G ad s.heap Kd U T zz F1 A1 H1 locs1 → W p l e R s m args below meth c H1 locs1 cells slots Z (F0 m (pc + 3) ls (.int r :: rest))) : W p l e R s m args below meth c H locs cells slots Z (F0 m pc ls (.int a4 :: .int a3 :: .int a2 :: .int a1 :: .ref (ad 0) :: rest)) := by
  obtain ⟨hx, hb, hml, hown, hts, hK, hlk, hN⟩ := id X
  exact va_calli (va_runV (C := RX0) (As := [.int a1, .int a2, .int a3, .int a4]) (rest := rest) ⟨hx, hb, hml, hown, hts⟩ (twc_rate l D G ad Kd U T zz F Ar a1 a2 a3 a4 H.size Q hw) (cwV 4 hts (lw_V q1255 q747 q748 q64 q749) rfl rfl rfl (by decide +kernel) hR) (c_prev X P) rfl rfl hls rfl (lv_room hst) hdg hC) P.2.2.1 (fun q _ h => P.regA hA q h) (fun q h => P.regA hA q h) (fun r u t H1 locs1 ht hvm hp hB _ _ hS => kk r u.1 u.2 H1 locs1 hp (c_afterA P ht hB hS))
-- toll
def wc_toll (Kd : tK) (T : tT) (F : tF) (Ar : tA) (a1 : Int32) (a2 : Int32) (a3 : Int32) (Q : Int32 → tF → tA → Prop) : Prop :=
  wc_isGate a1 (fun r_1 => ((r_1 = 0 → Q (-1) F Ar) ∧ (¬ r_1 = 0 → wc_isMinute a2 (fun r_3 => ((¬ r_3 = 0 → wc_in (a3.toInt64) 0 99 (fun r_5 => ((¬ r_5 = 0 → vp_in ((24 * a1) + a2) 48 ∧ ∀ x4_7 : Int32, x4_7 = (Ar 2 ((24 * a1) + a2).toNatClampNeg) → vp_in ((24 * a1) + a2) 48 ∧ ∀ Ar_8 : tA, Ar_8 = aset Ar 2 ((24 * a1) + a2).toNatClampNeg a3 → Q x4_7 F Ar_8) ∧ (r_5 = 0 → Q (-2) F Ar)))) ∧ (r_3 = 0 → Q (-1) F Ar))))))
set_option maxHeartbeats 4000000 in
theorem twc_toll (l : Launch) (D : va_G) (G ad : Nat → Nat) (Kd : tK) (U : tU) (T : tT) (zz : Int32) (F : tF) (Ar : tA) (a1 : Int32) (a2 : Int32) (a3 : Int32) (sz : Nat) (Q : Int32 → tF → tA → Prop) (hw : wc_toll Kd T F Ar a1 a2 a3 Q) : Met l yX0_toll (ws_ yX0_toll cX0_toll 5 (some .int)) ({ frames := 2, cells := 0, slots := 0, locals := 45 }) (va_Pc [.ref (ad 0), .int a1, .int a2, .int a3] (cPb D G ad Kd U T zz F Ar sz)) (cQi D G ad Kd U T zz sz Q) 0 0 (cReg G ad Kd U zz sz) := by
  refine c_entry (by decide) (Nat.le_of_ble_eq_true rfl) ?_
  intro p e s m args below meth c ls X hr hsz P hl
  subst hsz
  have X : cCx p s m args meth c cX0_toll 5 RX0 D G := X
  obtain ⟨hx, hb, hml, hown, hts, -, hlk, -⟩ := id X
  have S : CallFix p m c _ _ s _ lw_all RX0 := ⟨hx, hb, hml, hown, hts⟩
  have hl : lv_has ls 5 [(0, .ref (ad 0)), (1, .int a1), (2, .int a2), (3, .int a3)] := hl
  refine lv_iload_n hx hb dX0_toll_0 rfl (lv_at hl 1 rfl) ?_
  refine cwc_isGate S hw ⟨Nat.le_of_ble_eq_true rfl, Nat.le_of_ble_eq_true rfl⟩ ⟨Nat.zero_le _, Nat.zero_le _⟩ hl.1 (Nat.le_of_ble_eq_true rfl) dX0_toll_1 (fun r_1 hw => ?_)
  refine lv_if_eq (tgt := 14) hx hb dX0_toll_4 (by decide) (fun c_2 => ?_) (fun c_2 => ?_)
  · replace hw := hw.1 c_2
    refine lv_iconst (v := (-1)) hx hb dX0_toll_14 (by decide) ?_
    exact c_iret X P hr hw dX0_toll_15
  · replace hw := hw.2 c_2
    refine lv_iload_n hx hb dX0_toll_7 rfl (lv_at hl 2 rfl) ?_
    refine cwc_isMinute S hw ⟨Nat.le_of_ble_eq_true rfl, Nat.le_of_ble_eq_true rfl⟩ ⟨Nat.zero_le _, Nat.zero_le _⟩ hl.1 (Nat.le_of_ble_eq_true rfl) dX0_toll_8 (fun r_3 hw => ?_)
    refine lv_if_ne (tgt := 16) hx hb dX0_toll_11 (by decide) (fun c_4 => ?_) (fun c_4 => ?_)
    · replace hw := hw.1 c_4
      refine lv_iload_n hx hb dX0_toll_16 rfl (lv_at hl 3 rfl) ?_
      refine lv_i2l hx hb dX0_toll_17 rfl ?_
      refine lv_lconst (v := 0) hx hb dX0_toll_18 (by decide) ?_
      refine lv_ldc2 (v := 99) hx hb hown (hts _ q764) dX0_toll_19 ?_
      refine cwc_in S hw ⟨Nat.le_of_ble_eq_true rfl, Nat.le_of_ble_eq_true rfl⟩ ⟨Nat.zero_le _, Nat.zero_le _⟩ hl.1 (Nat.le_of_ble_eq_true rfl) dX0_toll_22 (fun r_5 hw => ?_)
      refine lv_if_ne (tgt := 31) hx hb dX0_toll_25 (by decide) (fun c_6 => ?_) (fun c_6 => ?_)
      · replace hw := hw.1 c_6
        refine lv_aload_n hx hb dX0_toll_31 rfl (lv_at hl 0 rfl) ?_
        refine cg_toll X P dX0_toll_32 ?_
        refine lv_bipush (v := 24) hx hb dX0_toll_35 (by decide) ?_
        refine lv_iload_n hx hb dX0_toll_37 rfl (lv_at hl 1 rfl) ?_
        refine lv_imul hx hb dX0_toll_38 ?_
        refine lv_iload_n hx hb dX0_toll_39 rfl (lv_at hl 2 rfl) ?_
        refine lv_iadd hx hb dX0_toll_40 ?_
        refine c_iald X P (rfl : cArr Kd 2 = some (0, 48)) hw.1 dX0_toll_41 ?_
        replace hw := hw.2
        refine lv_topi (fun x4_7 ex4_7 => ?_)
        replace hw := hw x4_7 ex4_7
        refine lv_istore (lv' := [(4, .int x4_7), (0, .ref (ad 0)), (1, .int a1), (2, .int a2), (3, .int a3)]) hx hb dX0_toll_42 hl (by decide) rfl (fun ls hl => ?_)
        refine lv_aload_n hx hb dX0_toll_44 rfl (lv_at hl 1 rfl) ?_
        refine cg_toll X P dX0_toll_45 ?_
        refine lv_bipush (v := 24) hx hb dX0_toll_48 (by decide) ?_
        refine lv_iload_n hx hb dX0_toll_50 rfl (lv_at hl 2 rfl) ?_
        refine lv_imul hx hb dX0_toll_51 ?_
        refine lv_iload_n hx hb dX0_toll_52 rfl (lv_at hl 3 rfl) ?_
        refine lv_iadd hx hb dX0_toll_53 ?_
        refine lv_iload_n hx hb dX0_toll_54 rfl (lv_at hl 4 rfl) ?_
        refine c_iast X P (rfl : cArr Kd 2 = some (0, 48)) hw.1 dX0_toll_55 (fun Ar_8 H locs eAr_8 P _ => ?_)
        replace hw := hw.2
        replace hw := hw Ar_8 eAr_8
        refine lv_iload hx hb dX0_toll_56 (lv_at hl 0 rfl) ?_
        exact c_iret X P hr hw dX0_toll_58
      · replace hw := hw.2 c_6
        refine lv_bipush (v := (-2)) hx hb dX0_toll_28 (by decide) ?_
        exact c_iret X P hr hw dX0_toll_30
    · replace hw := hw.2 c_4
      refine lv_iconst (v := (-1)) hx hb dX0_toll_14 (by decide) ?_
      exact c_iret X P hr hw dX0_toll_15
-- sort
def wc_sort (Kd : tK) (T : tT) (F : tF) (Ar : tA) (a1 : Int32) (a2 : Int32) (a3 : Int32) (a4 : Int32) (Q : Int32 → tF → tA → Prop) : Prop :=
  wc_isMinute a1 (fun r_1 => ((r_1 = 0 → Q (-2) F Ar) ∧ (¬ r_1 = 0 → wc_in (a2.toInt64) 0 999 (fun r_3 => ((r_3 = 0 → Q (-2) F Ar) ∧ (¬ r_3 = 0 → wc_in (a3.toInt64) 0 9 (fun r_5 => ((r_5 = 0 → Q (-2) F Ar) ∧ (¬ r_5 = 0 → wc_in (a4.toInt64) 0 9 (fun r_7 => ((¬ r_7 = 0 → ((¬ (F 6) = 4 → vp_in (F 6) 4 ∧ ∀ Ar_10 : tA, Ar_10 = aset Ar 3 (F 6).toNatClampNeg a1 → vp_in (F 6) 4 ∧ ∀ Ar_11 : tA, Ar_11 = aset Ar_10 4 (F 6).toNatClampNeg a2 → vp_in (2 * (F 6)) 8 ∧ ∀ Ar_12 : tA, Ar_12 = aset Ar_11 5 (2 * (F 6)).toNatClampNeg a3 → vp_in ((2 * (F 6)) + 1) 8 ∧ ∀ Ar_13 : tA, Ar_13 = aset Ar_12 5 ((2 * (F 6)) + 1).toNatClampNeg a4 → ∀ F_14 : tF, F_14 = upd F 6 ((F 6) + 1) → Q ((F_14 6) - 1) F_14 Ar_13) ∧ ((F 6) = 4 → Q (-4) F Ar))) ∧ (r_7 = 0 → Q (-2) F Ar))))))))))))
set_option maxHeartbeats 4000000 in
theorem twc_sort (l : Launch) (D : va_G) (G ad : Nat → Nat) (Kd : tK) (U : tU) (T : tT) (zz : Int32) (F : tF) (Ar : tA) (a1 : Int32) (a2 : Int32) (a3 : Int32) (a4 : Int32) (sz : Nat) (Q : Int32 → tF → tA → Prop) (hw : wc_sort Kd T F Ar a1 a2 a3 a4 Q) : Met l yX0_sort (ws_ yX0_sort cX0_sort 5 (some .int)) ({ frames := 2, cells := 0, slots := 0, locals := 45 }) (va_Pc [.ref (ad 0), .int a1, .int a2, .int a3, .int a4] (cPb D G ad Kd U T zz F Ar sz)) (cQi D G ad Kd U T zz sz Q) 0 0 (cReg G ad Kd U zz sz) := by
  refine c_entry (by decide) (Nat.le_of_ble_eq_true rfl) ?_
  intro p e s m args below meth c ls X hr hsz P hl
  subst hsz
  have X : cCx p s m args meth c cX0_sort 5 RX0 D G := X
  obtain ⟨hx, hb, hml, hown, hts, -, hlk, -⟩ := id X
  have S : CallFix p m c _ _ s _ lw_all RX0 := ⟨hx, hb, hml, hown, hts⟩
  have hl : lv_has ls 5 [(0, .ref (ad 0)), (1, .int a1), (2, .int a2), (3, .int a3), (4, .int a4)] := hl
  refine lv_iload_n hx hb dX0_sort_0 rfl (lv_at hl 1 rfl) ?_
  refine cwc_isMinute S hw ⟨Nat.le_of_ble_eq_true rfl, Nat.le_of_ble_eq_true rfl⟩ ⟨Nat.zero_le _, Nat.zero_le _⟩ hl.1 (Nat.le_of_ble_eq_true rfl) dX0_sort_1 (fun r_1 hw => ?_)
  refine lv_if_eq (tgt := 44) hx hb dX0_sort_4 (by decide) (fun c_2 => ?_) (fun c_2 => ?_)
  · replace hw := hw.1 c_2
    refine lv_bipush (v := (-2)) hx hb dX0_sort_44 (by decide) ?_
    exact c_iret X P hr hw dX0_sort_46
  · replace hw := hw.2 c_2
    refine lv_iload_n hx hb dX0_sort_7 rfl (lv_at hl 2 rfl) ?_
    refine lv_i2l hx hb dX0_sort_8 rfl ?_
    refine lv_lconst (v := 0) hx hb dX0_sort_9 (by decide) ?_
    refine lv_ldc2 (v := 999) hx hb hown (hts _ q769) dX0_sort_10 ?_
    refine cwc_in S hw ⟨Nat.le_of_ble_eq_true rfl, Nat.le_of_ble_eq_true rfl⟩ ⟨Nat.zero_le _, Nat.zero_le _⟩ hl.1 (Nat.le_of_ble_eq_true rfl) dX0_sort_13 (fun r_3 hw => ?_)
    refine lv_if_eq (tgt := 44) hx hb dX0_sort_16 (by decide) (fun c_4 => ?_) (fun c_4 => ?_)
    · replace hw := hw.1 c_4
      refine lv_bipush (v := (-2)) hx hb dX0_sort_44 (by decide) ?_
      exact c_iret X P hr hw dX0_sort_46
    · replace hw := hw.2 c_4
      refine lv_iload_n hx hb dX0_sort_19 rfl (lv_at hl 3 rfl) ?_
      refine lv_i2l hx hb dX0_sort_20 rfl ?_
      refine lv_lconst (v := 0) hx hb dX0_sort_21 (by decide) ?_
      refine lv_ldc2 (v := 9) hx hb hown (hts _ q759) dX0_sort_22 ?_
      refine cwc_in S hw ⟨Nat.le_of_ble_eq_true rfl, Nat.le_of_ble_eq_true rfl⟩ ⟨Nat.zero_le _, Nat.zero_le _⟩ hl.1 (Nat.le_of_ble_eq_true rfl) dX0_sort_25 (fun r_5 hw => ?_)
      refine lv_if_eq (tgt := 44) hx hb dX0_sort_28 (by decide) (fun c_6 => ?_) (fun c_6 => ?_)
      · replace hw := hw.1 c_6
        refine lv_bipush (v := (-2)) hx hb dX0_sort_44 (by decide) ?_
        exact c_iret X P hr hw dX0_sort_46
      · replace hw := hw.2 c_6
        refine lv_iload hx hb dX0_sort_31 (lv_at hl 4 rfl) ?_
        refine lv_i2l hx hb dX0_sort_33 rfl ?_
        refine lv_lconst (v := 0) hx hb dX0_sort_34 (by decide) ?_
        refine lv_ldc2 (v := 9) hx hb hown (hts _ q759) dX0_sort_35 ?_
        refine cwc_in S hw ⟨Nat.le_of_ble_eq_true rfl, Nat.le_of_ble_eq_true rfl⟩ ⟨Nat.zero_le _, Nat.zero_le _⟩ hl.1 (Nat.le_of_ble_eq_true rfl) dX0_sort_38 (fun r_7 hw => ?_)
        refine lv_if_ne (tgt := 47) hx hb dX0_sort_41 (by decide) (fun c_8 => ?_) (fun c_8 => ?_)
        · replace hw := hw.1 c_8
          refine lv_aload_n hx hb dX0_sort_47 rfl (lv_at hl 0 rfl) ?_
          refine cg_sorts X P dX0_sort_48 ?_
          refine lv_iconst (v := 4) hx hb dX0_sort_51 (by decide) ?_
          refine lv_icmp_ne (tgt := 58) hx hb dX0_sort_52 (by decide) (fun c_9 => ?_) (fun c_9 => ?_)
          · replace hw := hw.1 c_9
            refine lv_aload_n hx hb dX0_sort_58 rfl (lv_at hl 0 rfl) ?_
            refine cg_wish X P dX0_sort_59 ?_
            refine lv_aload_n hx hb dX0_sort_62 rfl (lv_at hl 0 rfl) ?_
            refine cg_sorts X P dX0_sort_63 ?_
            refine lv_iload_n hx hb dX0_sort_66 rfl (lv_at hl 1 rfl) ?_
            refine c_iast X P (rfl : cArr Kd 3 = some (0, 4)) hw.1 dX0_sort_67 (fun Ar_10 H locs eAr_10 P _ => ?_)
            replace hw := hw.2
            replace hw := hw Ar_10 eAr_10
            refine lv_aload_n hx hb dX0_sort_68 rfl (lv_at hl 0 rfl) ?_
            refine cg_stay X P dX0_sort_69 ?_
            refine lv_aload_n hx hb dX0_sort_72 rfl (lv_at hl 0 rfl) ?_
            refine cg_sorts X P dX0_sort_73 ?_
            refine lv_iload_n hx hb dX0_sort_76 rfl (lv_at hl 2 rfl) ?_
            refine c_iast X P (rfl : cArr Kd 4 = some (0, 4)) hw.1 dX0_sort_77 (fun Ar_11 H locs eAr_11 P _ => ?_)
            replace hw := hw.2
            replace hw := hw Ar_11 eAr_11
            refine lv_aload_n hx hb dX0_sort_78 rfl (lv_at hl 0 rfl) ?_
            refine cg_road X P dX0_sort_79 ?_
            refine lv_iconst (v := 2) hx hb dX0_sort_82 (by decide) ?_
            refine lv_aload_n hx hb dX0_sort_83 rfl (lv_at hl 0 rfl) ?_
            refine cg_sorts X P dX0_sort_84 ?_
            refine lv_imul hx hb dX0_sort_87 ?_
            refine lv_iload_n hx hb dX0_sort_88 rfl (lv_at hl 3 rfl) ?_
            refine c_iast X P (rfl : cArr Kd 5 = some (0, 8)) hw.1 dX0_sort_89 (fun Ar_12 H locs eAr_12 P _ => ?_)
            replace hw := hw.2
            replace hw := hw Ar_12 eAr_12
            refine lv_aload_n hx hb dX0_sort_90 rfl (lv_at hl 0 rfl) ?_
            refine cg_road X P dX0_sort_91 ?_
            refine lv_iconst (v := 2) hx hb dX0_sort_94 (by decide) ?_
            refine lv_aload_n hx hb dX0_sort_95 rfl (lv_at hl 0 rfl) ?_
            refine cg_sorts X P dX0_sort_96 ?_
            refine lv_imul hx hb dX0_sort_99 ?_
            refine lv_iconst (v := 1) hx hb dX0_sort_100 (by decide) ?_
            refine lv_iadd hx hb dX0_sort_101 ?_
            refine lv_iload hx hb dX0_sort_102 (lv_at hl 4 rfl) ?_
            refine c_iast X P (rfl : cArr Kd 5 = some (0, 8)) hw.1 dX0_sort_104 (fun Ar_13 H locs eAr_13 P _ => ?_)
            replace hw := hw.2
            replace hw := hw Ar_13 eAr_13
            refine lv_aload_n hx hb dX0_sort_105 rfl (lv_at hl 0 rfl) ?_
            refine lv_dup hx hb dX0_sort_106 rfl ?_
            refine cg_sorts X P dX0_sort_107 ?_
            refine lv_iconst (v := 1) hx hb dX0_sort_110 (by decide) ?_
            refine lv_iadd hx hb dX0_sort_111 ?_
            refine cp_sorts X P dX0_sort_112 (fun F_14 H locs eF_14 P _ => ?_)
            replace hw := hw F_14 eF_14
            refine lv_aload_n hx hb dX0_sort_115 rfl (lv_at hl 0 rfl) ?_
            refine cg_sorts X P dX0_sort_116 ?_
            refine lv_iconst (v := 1) hx hb dX0_sort_119 (by decide) ?_
            refine lv_isub hx hb dX0_sort_120 ?_
            exact c_iret X P hr hw dX0_sort_121
          · replace hw := hw.2 c_9
            refine lv_bipush (v := (-4)) hx hb dX0_sort_55 (by decide) ?_
            exact c_iret X P hr hw dX0_sort_57
        · replace hw := hw.2 c_8
          refine lv_bipush (v := (-2)) hx hb dX0_sort_44 (by decide) ?_
          exact c_iret X P hr hw dX0_sort_46
-- isSort
def wc_isSort (Kd : tK) (T : tT) (F : tF) (Ar : tA) (a1 : Int32) (Q : Int32 → Prop) : Prop :=
  wc_in (a1.toInt64) 0 (((F 6).toInt64) - 1) (fun r_1 => (r_1 = 0 ∨ r_1 = 1) ∧ Q r_1)
set_option maxHeartbeats 4000000 in
theorem twc_isSort (l : Launch) (D : va_G) (G ad : Nat → Nat) (Kd : tK) (U : tU) (T : tT) (zz : Int32) (F : tF) (Ar : tA) (a1 : Int32) (sz : Nat) (Q : Int32 → Prop) (hw : wc_isSort Kd T F Ar a1 Q) : Met l yX0_isSort (ws_ yX0_isSort cX0_isSort 2 (some .boolean)) ({ frames := 1, cells := 0, slots := 0, locals := 25 }) (va_Pc [.ref (ad 0), .int a1] (cPb D G ad Kd U T zz F Ar sz)) (vp_Si Q) 0 0 (fun _ => False) := by
  refine c_entry (by decide) (Nat.le_of_ble_eq_true rfl) ?_
  intro p e s m args below meth c ls X hr hsz P hl
  subst hsz
  have X : cCx p s m args meth c cX0_isSort 2 RX0 D G := X
  obtain ⟨hx, hb, hml, hown, hts, -, hlk, -⟩ := id X
  have S : CallFix p m c _ _ s _ lw_all RX0 := ⟨hx, hb, hml, hown, hts⟩
  have hl : lv_has ls 2 [(0, .ref (ad 0)), (1, .int a1)] := hl
  refine lv_iload_n hx hb dX0_isSort_0 rfl (lv_at hl 1 rfl) ?_
  refine lv_i2l hx hb dX0_isSort_1 rfl ?_
  refine lv_lconst (v := 0) hx hb dX0_isSort_2 (by decide) ?_
  refine lv_aload_n hx hb dX0_isSort_3 rfl (lv_at hl 0 rfl) ?_
  refine cg_sorts X P dX0_isSort_4 ?_
  refine lv_i2l hx hb dX0_isSort_7 rfl ?_
  refine lv_lconst (v := 1) hx hb dX0_isSort_8 (by decide) ?_
  refine lv_lsub hx hb dX0_isSort_9 ?_
  refine cwc_in S hw ⟨Nat.le_of_ble_eq_true rfl, Nat.le_of_ble_eq_true rfl⟩ ⟨Nat.zero_le _, Nat.zero_le _⟩ hl.1 (Nat.le_of_ble_eq_true rfl) dX0_isSort_10 (fun r_1 hw => ?_)
  exact r_zret hx hb hlk hr hw.1 hw.2 dX0_isSort_13
theorem cwc_isSort {Q : Int32 → Prop} {a1 : Int32} {Z : State → Prop} {A : Nat → Prop} {cells slots : Nat} {H : Heap} {locs : List Loc} {F : tF} {Ar : tA} (X : cCx p s m args meth c cc nL RX0 D G) (P : cP D A G ad s.heap Kd U T zz F Ar H locs) (hA : ∀ q, s.heap.size ≤ q → A q) (hw : wc_isSort Kd T F Ar a1 Q) (hR : 1 + 1 ≤ R.frames ∧ 8 + (2 + 11) + 25 ≤ R.locals) (hC : cells ≤ R.cells ∧ slots ≤ R.slots) (hls : ls.size = nL) (hst : (rest.map fun v => v.category).sum ≤ 8) (hdg : decode cc pc = .ok (.invokevirtual 150, 3)) (kk : ∀ r, Q r → W p l e R s m args below meth c H locs cells slots Z (F0 m (pc + 3) ls (.int r :: rest))) : W p l e R s m args below meth c H locs cells slots Z (F0 m pc ls (.int a1 :: .ref (ad 0) :: rest)) := by
  obtain ⟨hx, hb, hml, hown, hts, hK, hlk, hN⟩ := id X
  exact vp_callSi (vrun_call (va_runV (C := RX0) (As := [.int a1]) (rest := rest) ⟨hx, hb, hml, hown, hts⟩ (twc_isSort l D G ad Kd U T zz F Ar a1 H.size Q hw) (cwV 1 hts (lw_V q774 q776 qs13 q64 q777) rfl rfl rfl (by decide +kernel) hR) (c_prev X P) rfl rfl hls rfl (lv_room hst) hdg hC)) kk
-- cart
def wc_cart (Kd : tK) (T : tT) (F : tF) (Ar : tA) (a1 : Int32) (Q : Int32 → tF → tA → Prop) : Prop :=
  wc_isSort Kd T F Ar a1 (fun r_1 => ((¬ r_1 = 0 → ((¬ (F 7) = 16 → vp_in (F 7) 16 ∧ ∀ Ar_4 : tA, Ar_4 = aset Ar 6 (F 7).toNatClampNeg a1 → ∀ F_5 : tF, F_5 = upd F 7 ((F 7) + 1) → Q ((F_5 7) - 1) F_5 Ar_4) ∧ ((F 7) = 16 → Q (-4) F Ar))) ∧ (r_1 = 0 → Q (-1) F Ar)))
set_option maxHeartbeats 4000000 in
theorem twc_cart (l : Launch) (D : va_G) (G ad : Nat → Nat) (Kd : tK) (U : tU) (T : tT) (zz : Int32) (F : tF) (Ar : tA) (a1 : Int32) (sz : Nat) (Q : Int32 → tF → tA → Prop) (hw : wc_cart Kd T F Ar a1 Q) : Met l yX0_cart (ws_ yX0_cart cX0_cart 2 (some .int)) ({ frames := 2, cells := 0, slots := 0, locals := 46 }) (va_Pc [.ref (ad 0), .int a1] (cPb D G ad Kd U T zz F Ar sz)) (cQi D G ad Kd U T zz sz Q) 0 0 (cReg G ad Kd U zz sz) := by
  refine c_entry (by decide) (Nat.le_of_ble_eq_true rfl) ?_
  intro p e s m args below meth c ls X hr hsz P hl
  subst hsz
  have X : cCx p s m args meth c cX0_cart 2 RX0 D G := X
  obtain ⟨hx, hb, hml, hown, hts, -, hlk, -⟩ := id X
  have S : CallFix p m c _ _ s _ lw_all RX0 := ⟨hx, hb, hml, hown, hts⟩
  have hl : lv_has ls 2 [(0, .ref (ad 0)), (1, .int a1)] := hl
  refine lv_aload_n hx hb dX0_cart_0 rfl (lv_at hl 0 rfl) ?_
  refine lv_iload_n hx hb dX0_cart_1 rfl (lv_at hl 1 rfl) ?_
  refine cwc_isSort X P (fun _ h => Or.inr h) hw ⟨Nat.le_of_ble_eq_true rfl, Nat.le_of_ble_eq_true rfl⟩ ⟨Nat.zero_le _, Nat.zero_le _⟩ hl.1 (Nat.le_of_ble_eq_true rfl) dX0_cart_2 (fun r_1 hw => ?_)
  refine lv_if_ne (tgt := 10) hx hb dX0_cart_5 (by decide) (fun c_2 => ?_) (fun c_2 => ?_)
  · replace hw := hw.1 c_2
    refine lv_aload_n hx hb dX0_cart_10 rfl (lv_at hl 0 rfl) ?_
    refine cg_carts X P dX0_cart_11 ?_
    refine lv_bipush (v := 16) hx hb dX0_cart_14 (by decide) ?_
    refine lv_icmp_ne (tgt := 22) hx hb dX0_cart_16 (by decide) (fun c_3 => ?_) (fun c_3 => ?_)
    · replace hw := hw.1 c_3
      refine lv_aload_n hx hb dX0_cart_22 rfl (lv_at hl 0 rfl) ?_
      refine cg_sortOf X P dX0_cart_23 ?_
      refine lv_aload_n hx hb dX0_cart_26 rfl (lv_at hl 0 rfl) ?_
      refine cg_carts X P dX0_cart_27 ?_
      refine lv_iload_n hx hb dX0_cart_30 rfl (lv_at hl 1 rfl) ?_
      refine c_iast X P (rfl : cArr Kd 6 = some (0, 16)) hw.1 dX0_cart_31 (fun Ar_4 H locs eAr_4 P _ => ?_)
      replace hw := hw.2
      replace hw := hw Ar_4 eAr_4
      refine lv_aload_n hx hb dX0_cart_32 rfl (lv_at hl 0 rfl) ?_
      refine lv_dup hx hb dX0_cart_33 rfl ?_
      refine cg_carts X P dX0_cart_34 ?_
      refine lv_iconst (v := 1) hx hb dX0_cart_37 (by decide) ?_
      refine lv_iadd hx hb dX0_cart_38 ?_
      refine cp_carts X P dX0_cart_39 (fun F_5 H locs eF_5 P _ => ?_)
      replace hw := hw F_5 eF_5
      refine lv_aload_n hx hb dX0_cart_42 rfl (lv_at hl 0 rfl) ?_
      refine cg_carts X P dX0_cart_43 ?_
      refine lv_iconst (v := 1) hx hb dX0_cart_46 (by decide) ?_
      refine lv_isub hx hb dX0_cart_47 ?_
      exact c_iret X P hr hw dX0_cart_48
    · replace hw := hw.2 c_3
      refine lv_bipush (v := (-4)) hx hb dX0_cart_19 (by decide) ?_
      exact c_iret X P hr hw dX0_cart_21
  · replace hw := hw.2 c_2
    refine lv_iconst (v := (-1)) hx hb dX0_cart_8 (by decide) ?_
    exact c_iret X P hr hw dX0_cart_9
-- gateTold
def wc_gateTold (Kd : tK) (T : tT) (F : tF) (Ar : tA) (a1 : Int32) (a2 : Int32) (a3 : Int32) (Q : Int32 → Prop) : Prop :=
  wc_isGate a1 (fun r_1 => ((r_1 = 0 → Q (-5)) ∧ (¬ r_1 = 0 → wc_isMinute a2 (fun r_3 => ((¬ r_3 = 0 → ((a3 = 0 → vp_in ((24 * a1) + a2) 48 ∧ Q (Ar 1 ((24 * a1) + a2).toNatClampNeg)) ∧ (¬ a3 = 0 → ((a3 = 1 → vp_in ((24 * a1) + a2) 48 ∧ Q (Ar 2 ((24 * a1) + a2).toNatClampNeg)) ∧ (¬ a3 = 1 → Q (-7)))))) ∧ (r_3 = 0 → Q (-5)))))))
set_option maxHeartbeats 4000000 in
theorem twc_gateTold (l : Launch) (D : va_G) (G ad : Nat → Nat) (Kd : tK) (U : tU) (T : tT) (zz : Int32) (F : tF) (Ar : tA) (a1 : Int32) (a2 : Int32) (a3 : Int32) (sz : Nat) (Q : Int32 → Prop) (hw : wc_gateTold Kd T F Ar a1 a2 a3 Q) : Met l yX0_gateTold (ws_ yX0_gateTold cX0_gateTold 4 (some .int)) ({ frames := 2, cells := 0, slots := 0, locals := 45 }) (va_Pc [.ref (ad 0), .int a1, .int a2, .int a3] (cPb D G ad Kd U T zz F Ar sz)) (vp_Si Q) 0 0 (fun _ => False) := by
  refine c_entry (by decide) (Nat.le_of_ble_eq_true rfl) ?_
  intro p e s m args below meth c ls X hr hsz P hl
  subst hsz
  have X : cCx p s m args meth c cX0_gateTold 4 RX0 D G := X
  obtain ⟨hx, hb, hml, hown, hts, -, hlk, -⟩ := id X
  have S : CallFix p m c _ _ s _ lw_all RX0 := ⟨hx, hb, hml, hown, hts⟩
  have hl : lv_has ls 4 [(0, .ref (ad 0)), (1, .int a1), (2, .int a2), (3, .int a3)] := hl
  refine lv_iload_n hx hb dX0_gateTold_0 rfl (lv_at hl 1 rfl) ?_
  refine cwc_isGate S hw ⟨Nat.le_of_ble_eq_true rfl, Nat.le_of_ble_eq_true rfl⟩ ⟨Nat.zero_le _, Nat.zero_le _⟩ hl.1 (Nat.le_of_ble_eq_true rfl) dX0_gateTold_1 (fun r_1 hw => ?_)
  refine lv_if_eq (tgt := 14) hx hb dX0_gateTold_4 (by decide) (fun c_2 => ?_) (fun c_2 => ?_)
  · replace hw := hw.1 c_2
    refine lv_bipush (v := (-5)) hx hb dX0_gateTold_14 (by decide) ?_
    exact r_iret hx hb hlk hr hw dX0_gateTold_16
  · replace hw := hw.2 c_2
    refine lv_iload_n hx hb dX0_gateTold_7 rfl (lv_at hl 2 rfl) ?_
    refine cwc_isMinute S hw ⟨Nat.le_of_ble_eq_true rfl, Nat.le_of_ble_eq_true rfl⟩ ⟨Nat.zero_le _, Nat.zero_le _⟩ hl.1 (Nat.le_of_ble_eq_true rfl) dX0_gateTold_8 (fun r_3 hw => ?_)
    refine lv_if_ne (tgt := 17) hx hb dX0_gateTold_11 (by decide) (fun c_4 => ?_) (fun c_4 => ?_)
    · replace hw := hw.1 c_4
      refine lv_iload_n hx hb dX0_gateTold_17 rfl (lv_at hl 3 rfl) ?_
      by_cases c_5 : a3 = 0
      · replace hw := hw.1 c_5
        refine lv_lookup (off := 26) (tgt := 44) hx hb dX0_gateTold_18 (by decide) (by rw [c_5]; decide) (by decide) ?_
        refine lv_aload_n hx hb dX0_gateTold_44 rfl (lv_at hl 0 rfl) ?_
        refine cg_rate X P dX0_gateTold_45 ?_
        refine lv_bipush (v := 24) hx hb dX0_gateTold_48 (by decide) ?_
        refine lv_iload_n hx hb dX0_gateTold_50 rfl (lv_at hl 1 rfl) ?_
        refine lv_imul hx hb dX0_gateTold_51 ?_
        refine lv_iload_n hx hb dX0_gateTold_52 rfl (lv_at hl 2 rfl) ?_
        refine lv_iadd hx hb dX0_gateTold_53 ?_
        refine c_iald X P (rfl : cArr Kd 1 = some (0, 48)) hw.1 dX0_gateTold_54 ?_
        replace hw := hw.2
        exact r_iret hx hb hlk hr hw dX0_gateTold_55
      · replace hw := hw.2 c_5
        by_cases c_6 : a3 = 1
        · replace hw := hw.1 c_6
          refine lv_lookup (off := 38) (tgt := 56) hx hb dX0_gateTold_18 (by decide) (by rw [c_6]; decide) (by decide) ?_
          refine lv_aload_n hx hb dX0_gateTold_56 rfl (lv_at hl 0 rfl) ?_
          refine cg_toll X P dX0_gateTold_57 ?_
          refine lv_bipush (v := 24) hx hb dX0_gateTold_60 (by decide) ?_
          refine lv_iload_n hx hb dX0_gateTold_62 rfl (lv_at hl 1 rfl) ?_
          refine lv_imul hx hb dX0_gateTold_63 ?_
          refine lv_iload_n hx hb dX0_gateTold_64 rfl (lv_at hl 2 rfl) ?_
          refine lv_iadd hx hb dX0_gateTold_65 ?_
          refine c_iald X P (rfl : cArr Kd 2 = some (0, 48)) hw.1 dX0_gateTold_66 ?_
          replace hw := hw.2
          exact r_iret hx hb hlk hr hw dX0_gateTold_67
        · replace hw := hw.2 c_6
          refine lv_lookup (off := 50) (tgt := 68) hx hb dX0_gateTold_18 (by decide) (by have z0 : a3.toInt ≠ 0 := i32_ne c_5; have z1 : a3.toInt ≠ 1 := i32_ne c_6; simp [Op.lookupswitch.offset]; omega) (by decide) ?_
          refine lv_bipush (v := (-7)) hx hb dX0_gateTold_68 (by decide) ?_
          exact r_iret hx hb hlk hr hw dX0_gateTold_70
    · replace hw := hw.2 c_4
      refine lv_bipush (v := (-5)) hx hb dX0_gateTold_14 (by decide) ?_
      exact r_iret hx hb hlk hr hw dX0_gateTold_16
-- sortTold
def wc_sortTold (Kd : tK) (T : tT) (F : tF) (Ar : tA) (a1 : Int32) (a2 : Int32) (Q : Int32 → Prop) : Prop :=
  wc_isSort Kd T F Ar a1 (fun r_1 => ((¬ r_1 = 0 → ((a2 = 0 → vp_in a1 4 ∧ Q (Ar 3 a1.toNatClampNeg)) ∧ (¬ a2 = 0 → ((a2 = 1 → vp_in a1 4 ∧ Q (Ar 4 a1.toNatClampNeg)) ∧ (¬ a2 = 1 → ((a2 = 2 → vp_in (2 * a1) 8 ∧ Q (Ar 5 (2 * a1).toNatClampNeg)) ∧ (¬ a2 = 2 → ((a2 = 3 → vp_in ((2 * a1) + 1) 8 ∧ Q (Ar 5 ((2 * a1) + 1).toNatClampNeg)) ∧ (¬ a2 = 3 → Q (-7)))))))))) ∧ (r_1 = 0 → Q (-5))))
set_option maxHeartbeats 4000000 in
theorem twc_sortTold (l : Launch) (D : va_G) (G ad : Nat → Nat) (Kd : tK) (U : tU) (T : tT) (zz : Int32) (F : tF) (Ar : tA) (a1 : Int32) (a2 : Int32) (sz : Nat) (Q : Int32 → Prop) (hw : wc_sortTold Kd T F Ar a1 a2 Q) : Met l yX0_sortTold (ws_ yX0_sortTold cX0_sortTold 3 (some .int)) ({ frames := 2, cells := 0, slots := 0, locals := 46 }) (va_Pc [.ref (ad 0), .int a1, .int a2] (cPb D G ad Kd U T zz F Ar sz)) (vp_Si Q) 0 0 (fun _ => False) := by
  refine c_entry (by decide) (Nat.le_of_ble_eq_true rfl) ?_
  intro p e s m args below meth c ls X hr hsz P hl
  subst hsz
  have X : cCx p s m args meth c cX0_sortTold 3 RX0 D G := X
  obtain ⟨hx, hb, hml, hown, hts, -, hlk, -⟩ := id X
  have S : CallFix p m c _ _ s _ lw_all RX0 := ⟨hx, hb, hml, hown, hts⟩
  have hl : lv_has ls 3 [(0, .ref (ad 0)), (1, .int a1), (2, .int a2)] := hl
  refine lv_aload_n hx hb dX0_sortTold_0 rfl (lv_at hl 0 rfl) ?_
  refine lv_iload_n hx hb dX0_sortTold_1 rfl (lv_at hl 1 rfl) ?_
  refine cwc_isSort X P (fun _ h => Or.inr h) hw ⟨Nat.le_of_ble_eq_true rfl, Nat.le_of_ble_eq_true rfl⟩ ⟨Nat.zero_le _, Nat.zero_le _⟩ hl.1 (Nat.le_of_ble_eq_true rfl) dX0_sortTold_2 (fun r_1 hw => ?_)
  refine lv_if_ne (tgt := 11) hx hb dX0_sortTold_5 (by decide) (fun c_2 => ?_) (fun c_2 => ?_)
  · replace hw := hw.1 c_2
    refine lv_iload_n hx hb dX0_sortTold_11 rfl (lv_at hl 2 rfl) ?_
    by_cases c_3 : a2 = 0
    · replace hw := hw.1 c_3
      refine ts_in (off := 32) (tgt := 44) hx hb dX0_sortTold_12 0 c_3 (by decide) (by decide) ?_
      refine lv_aload_n hx hb dX0_sortTold_44 rfl (lv_at hl 0 rfl) ?_
      refine cg_wish X P dX0_sortTold_45 ?_
      refine lv_iload_n hx hb dX0_sortTold_48 rfl (lv_at hl 1 rfl) ?_
      refine c_iald X P (rfl : cArr Kd 3 = some (0, 4)) hw.1 dX0_sortTold_49 ?_
      replace hw := hw.2
      exact r_iret hx hb hlk hr hw dX0_sortTold_50
    · replace hw := hw.2 c_3
      by_cases c_4 : a2 = 1
      · replace hw := hw.1 c_4
        refine ts_in (off := 39) (tgt := 51) hx hb dX0_sortTold_12 1 c_4 (by decide) (by decide) ?_
        refine lv_aload_n hx hb dX0_sortTold_51 rfl (lv_at hl 0 rfl) ?_
        refine cg_stay X P dX0_sortTold_52 ?_
        refine lv_iload_n hx hb dX0_sortTold_55 rfl (lv_at hl 1 rfl) ?_
        refine c_iald X P (rfl : cArr Kd 4 = some (0, 4)) hw.1 dX0_sortTold_56 ?_
        replace hw := hw.2
        exact r_iret hx hb hlk hr hw dX0_sortTold_57
      · replace hw := hw.2 c_4
        by_cases c_5 : a2 = 2
        · replace hw := hw.1 c_5
          refine ts_in (off := 46) (tgt := 58) hx hb dX0_sortTold_12 2 c_5 (by decide) (by decide) ?_
          refine lv_aload_n hx hb dX0_sortTold_58 rfl (lv_at hl 0 rfl) ?_
          refine cg_road X P dX0_sortTold_59 ?_
          refine lv_iconst (v := 2) hx hb dX0_sortTold_62 (by decide) ?_
          refine lv_iload_n hx hb dX0_sortTold_63 rfl (lv_at hl 1 rfl) ?_
          refine lv_imul hx hb dX0_sortTold_64 ?_
          refine c_iald X P (rfl : cArr Kd 5 = some (0, 8)) hw.1 dX0_sortTold_65 ?_
          replace hw := hw.2
          exact r_iret hx hb hlk hr hw dX0_sortTold_66
        · replace hw := hw.2 c_5
          by_cases c_6 : a2 = 3
          · replace hw := hw.1 c_6
            refine ts_in (off := 55) (tgt := 67) hx hb dX0_sortTold_12 3 c_6 (by decide) (by decide) ?_
            refine lv_aload_n hx hb dX0_sortTold_67 rfl (lv_at hl 0 rfl) ?_
            refine cg_road X P dX0_sortTold_68 ?_
            refine lv_iconst (v := 2) hx hb dX0_sortTold_71 (by decide) ?_
            refine lv_iload_n hx hb dX0_sortTold_72 rfl (lv_at hl 1 rfl) ?_
            refine lv_imul hx hb dX0_sortTold_73 ?_
            refine lv_iconst (v := 1) hx hb dX0_sortTold_74 (by decide) ?_
            refine lv_iadd hx hb dX0_sortTold_75 ?_
            refine c_iald X P (rfl : cArr Kd 5 = some (0, 8)) hw.1 dX0_sortTold_76 ?_
            replace hw := hw.2
            exact r_iret hx hb hlk hr hw dX0_sortTold_77
          · replace hw := hw.2 c_6
            refine lv_tableOut (tgt := 78) hx hb dX0_sortTold_12 (by have z0 : a2.toInt ≠ 0 := i32_ne c_3; have z1 : a2.toInt ≠ 1 := i32_ne c_4; have z2 : a2.toInt ≠ 2 := i32_ne c_5; have z3 : a2.toInt ≠ 3 := i32_ne c_6; omega) (by decide) ?_
            refine lv_bipush (v := (-7)) hx hb dX0_sortTold_78 (by decide) ?_
            exact r_iret hx hb hlk hr hw dX0_sortTold_80
  · replace hw := hw.2 c_2
    refine lv_bipush (v := (-5)) hx hb dX0_sortTold_8 (by decide) ?_
    exact r_iret hx hb hlk hr hw dX0_sortTold_10
-- isSheet
def wc_isSheet (a1 : Int32) (Q : Int32 → Prop) : Prop :=
  wc_in (a1.toInt64) 0 3 (fun r_1 => (r_1 = 0 ∨ r_1 = 1) ∧ Q r_1)
set_option maxHeartbeats 4000000 in
theorem twc_isSheet (l : Launch) (a1 : Int32) (Q : Int32 → Prop) (hw : wc_isSheet a1 Q) : Met l yX0_isSheet (ws_ yX0_isSheet cX0_isSheet 1 (some .boolean)) ({ frames := 1, cells := 0, slots := 0, locals := 25 }) (va_Pc [.int a1] (fun _ => True)) (vp_Si Q) 0 0 (fun _ => False) := by
  refine s_entry (by decide) (Nat.le_of_ble_eq_true rfl) ?_
  intro p e s m below meth c ls hx hb hml hown hts hlk hr hl
  have hown : s.vm.findClass RX0 = some m.cls := hown
  have X : sCx p s m _ meth c cX0_isSheet 1 RX0 := ⟨hx, hb, hml, hown, hts, hlk⟩
  have S : CallFix p m c _ _ s _ lw_all RX0 := ⟨hx, hb, hml, hown, hts⟩
  have hl : lv_has ls 1 [(0, .int a1)] := hl
  refine lv_iload_n hx hb dX0_isSheet_0 rfl (lv_at hl 0 rfl) ?_
  refine lv_i2l hx hb dX0_isSheet_1 rfl ?_
  refine lv_lconst (v := 0) hx hb dX0_isSheet_2 (by decide) ?_
  refine lv_ldc2 (v := 3) hx hb hown (hts _ q794) dX0_isSheet_3 ?_
  refine cwc_in S hw ⟨Nat.le_of_ble_eq_true rfl, Nat.le_of_ble_eq_true rfl⟩ ⟨Nat.zero_le _, Nat.zero_le _⟩ hl.1 (Nat.le_of_ble_eq_true rfl) dX0_isSheet_6 (fun r_1 hw => ?_)
  exact r_zret hx hb hlk hr hw.1 hw.2 dX0_isSheet_9
theorem cwc_isSheet {Q : Int32 → Prop} {a1 : Int32} {Z : State → Prop} {cells slots : Nat} {H : Heap} {locs : List Loc} (S : CallFix p m c cc nL s args lw_all RX0) (hw : wc_isSheet a1 Q) (hR : 1 + 1 ≤ R.frames ∧ 8 + (1 + 11) + 25 ≤ R.locals) (hC : cells ≤ R.cells ∧ slots ≤ R.slots) (hls : ls.size = nL) (hst : (rest.map fun v => v.category).sum ≤ 8) (hdg : decode cc pc = .ok (.invokestatic 219, 3)) (kk : ∀ r, Q r → W p l e R s m args below meth c H locs cells slots Z (F0 m (pc + 3) ls (.int r :: rest))) : W p l e R s m args below meth c H locs cells slots Z (F0 m pc ls (.int a1 :: rest)) :=
  vp_callSi (s_runR (as := [.int a1]) S (twc_isSheet l a1 Q hw) (va_cwS 1 S.2.2.2.2 (lw_S q791 q792 q64 q793) rfl rfl rfl (by decide +kernel) hR) rfl hls hst hdg hC) kk
-- isWay
def wc_isWay (Kd : tK) (T : tT) (F : tF) (Ar : tA) (a1 : Int32) (Q : Int32 → Prop) : Prop :=
  wc_in (a1.toInt64) 0 (((F 32).toInt64) - 1) (fun r_1 => (r_1 = 0 ∨ r_1 = 1) ∧ Q r_1)
set_option maxHeartbeats 4000000 in
theorem twc_isWay (l : Launch) (D : va_G) (G ad : Nat → Nat) (Kd : tK) (U : tU) (T : tT) (zz : Int32) (F : tF) (Ar : tA) (a1 : Int32) (sz : Nat) (Q : Int32 → Prop) (hw : wc_isWay Kd T F Ar a1 Q) : Met l yX0_isWay (ws_ yX0_isWay cX0_isWay 2 (some .boolean)) ({ frames := 1, cells := 0, slots := 0, locals := 25 }) (va_Pc [.ref (ad 0), .int a1] (cPb D G ad Kd U T zz F Ar sz)) (vp_Si Q) 0 0 (fun _ => False) := by
  refine c_entry (by decide) (Nat.le_of_ble_eq_true rfl) ?_
  intro p e s m args below meth c ls X hr hsz P hl
  subst hsz
  have X : cCx p s m args meth c cX0_isWay 2 RX0 D G := X
  obtain ⟨hx, hb, hml, hown, hts, -, hlk, -⟩ := id X
  have S : CallFix p m c _ _ s _ lw_all RX0 := ⟨hx, hb, hml, hown, hts⟩
  have hl : lv_has ls 2 [(0, .ref (ad 0)), (1, .int a1)] := hl
  refine lv_iload_n hx hb dX0_isWay_0 rfl (lv_at hl 1 rfl) ?_
  refine lv_i2l hx hb dX0_isWay_1 rfl ?_
  refine lv_lconst (v := 0) hx hb dX0_isWay_2 (by decide) ?_
  refine lv_aload_n hx hb dX0_isWay_3 rfl (lv_at hl 0 rfl) ?_
  refine cg_ways X P dX0_isWay_4 ?_
  refine c_lsize X P ⟨Nat.le_of_ble_eq_true rfl, Nat.le_of_ble_eq_true rfl⟩ hl.1 (Nat.le_of_ble_eq_true rfl) ⟨Nat.zero_le _, Nat.zero_le _⟩ dX0_isWay_7 ?_
  refine lv_i2l hx hb dX0_isWay_10 rfl ?_
  refine lv_lconst (v := 1) hx hb dX0_isWay_11 (by decide) ?_
  refine lv_lsub hx hb dX0_isWay_12 ?_
  refine cwc_in S hw ⟨Nat.le_of_ble_eq_true rfl, Nat.le_of_ble_eq_true rfl⟩ ⟨Nat.zero_le _, Nat.zero_le _⟩ hl.1 (Nat.le_of_ble_eq_true rfl) dX0_isWay_13 (fun r_1 hw => ?_)
  exact r_zret hx hb hlk hr hw.1 hw.2 dX0_isWay_16
theorem cwc_isWay {Q : Int32 → Prop} {a1 : Int32} {Z : State → Prop} {A : Nat → Prop} {cells slots : Nat} {H : Heap} {locs : List Loc} {F : tF} {Ar : tA} (X : cCx p s m args meth c cc nL RX0 D G) (P : cP D A G ad s.heap Kd U T zz F Ar H locs) (hA : ∀ q, s.heap.size ≤ q → A q) (hw : wc_isWay Kd T F Ar a1 Q) (hR : 1 + 1 ≤ R.frames ∧ 8 + (2 + 11) + 25 ≤ R.locals) (hC : cells ≤ R.cells ∧ slots ≤ R.slots) (hls : ls.size = nL) (hst : (rest.map fun v => v.category).sum ≤ 8) (hdg : decode cc pc = .ok (.invokevirtual 243, 3)) (kk : ∀ r, Q r → W p l e R s m args below meth c H locs cells slots Z (F0 m (pc + 3) ls (.int r :: rest))) : W p l e R s m args below meth c H locs cells slots Z (F0 m pc ls (.int a1 :: .ref (ad 0) :: rest)) := by
  obtain ⟨hx, hb, hml, hown, hts, hK, hlk, hN⟩ := id X
  exact vp_callSi (vrun_call (va_runV (C := RX0) (As := [.int a1]) (rest := rest) ⟨hx, hb, hml, hown, hts⟩ (twc_isWay l D G ad Kd U T zz F Ar a1 H.size Q hw) (cwV 1 hts (lw_V q927 q929 qs17 q64 q930) rfl rfl rfl (by decide +kernel) hR) (c_prev X P) rfl rfl hls rfl (lv_room hst) hdg hC)) kk
-- wayTold
def wc_wayTold (Kd : tK) (T : tT) (F : tF) (Ar : tA) (a1 : Int32) (a2 : Int32) (Q : Int32 → Prop) : Prop :=
  wc_isWay Kd T F Ar a1 (fun r_1 => ((¬ r_1 = 0 → (¬ a1 < 0 ∧ a1 < F 32) ∧ ((¬ a2 = (-1) → ((¬ a2 = (-2) → wc_in (a2.toInt64) 0 (((F (wa (a1.toNatClampNeg))).toInt64) - 1) (fun r_6 => ((r_6 = 0 → Q (-7)) ∧ (¬ r_6 = 0 → vp_in a2 16 ∧ Q (Ar (wa (a1.toNatClampNeg)) a2.toNatClampNeg))))) ∧ (a2 = (-2) → Q (F (wa (a1.toNatClampNeg)))))) ∧ (a2 = (-1) → Q (kindV (kdOf Kd (a1.toNatClampNeg)))))) ∧ (r_1 = 0 → Q (-5))))
set_option maxHeartbeats 4000000 in
theorem twc_wayTold (l : Launch) (D : va_G) (G ad : Nat → Nat) (Kd : tK) (U : tU) (T : tT) (zz : Int32) (F : tF) (Ar : tA) (a1 : Int32) (a2 : Int32) (sz : Nat) (Q : Int32 → Prop) (hw : wc_wayTold Kd T F Ar a1 a2 Q) : Met l yX0_wayTold (ws_ yX0_wayTold cX0_wayTold 4 (some .int)) ({ frames := 3, cells := 0, slots := 0, locals := 64 }) (va_Pc [.ref (ad 0), .int a1, .int a2] (cPb D G ad Kd U T zz F Ar sz)) (vp_Si Q) 0 0 (fun _ => False) := by
  refine c_entry (by decide) (Nat.le_of_ble_eq_true rfl) ?_
  intro p e s m args below meth c ls X hr hsz P hl
  subst hsz
  have X : cCx p s m args meth c cX0_wayTold 4 RX0 D G := X
  obtain ⟨hx, hb, hml, hown, hts, -, hlk, -⟩ := id X
  have S : CallFix p m c _ _ s _ lw_all RX0 := ⟨hx, hb, hml, hown, hts⟩
  have hl : lv_has ls 4 [(0, .ref (ad 0)), (1, .int a1), (2, .int a2)] := hl
  refine lv_aload_n hx hb dX0_wayTold_0 rfl (lv_at hl 0 rfl) ?_
  refine lv_iload_n hx hb dX0_wayTold_1 rfl (lv_at hl 1 rfl) ?_
  refine cwc_isWay X P (fun _ h => Or.inr h) hw ⟨Nat.le_of_ble_eq_true rfl, Nat.le_of_ble_eq_true rfl⟩ ⟨Nat.zero_le _, Nat.zero_le _⟩ hl.1 (Nat.le_of_ble_eq_true rfl) dX0_wayTold_2 (fun r_1 hw => ?_)
  refine lv_if_ne (tgt := 11) hx hb dX0_wayTold_5 (by decide) (fun c_2 => ?_) (fun c_2 => ?_)
  · replace hw := hw.1 c_2
    refine lv_aload_n hx hb dX0_wayTold_11 rfl (lv_at hl 0 rfl) ?_
    refine cg_ways X P dX0_wayTold_12 ?_
    refine lv_iload_n hx hb dX0_wayTold_15 rfl (lv_at hl 1 rfl) ?_
    refine c_lget X P hw.1.1 hw.1.2 ⟨Nat.le_of_ble_eq_true rfl, Nat.le_of_ble_eq_true rfl⟩ hl.1 (Nat.le_of_ble_eq_true rfl) ⟨Nat.zero_le _, Nat.zero_le _⟩ dX0_wayTold_16 (fun hk_3 => ?_)
    replace hw := hw.2
    refine c_castW X P hk_3 dX0_wayTold_19 ?_
    refine lv_astore_n (lv' := [(3, .ref (ad (wo (a1.toNatClampNeg)))), (0, .ref (ad 0)), (1, .int a1), (2, .int a2)]) hx hb dX0_wayTold_22 rfl hl (by decide) rfl (fun ls hl => ?_)
    refine lv_iload_n hx hb dX0_wayTold_23 rfl (lv_at hl 3 rfl) ?_
    refine lv_iconst (v := (-1)) hx hb dX0_wayTold_24 (by decide) ?_
    refine lv_icmp_ne (tgt := 33) hx hb dX0_wayTold_25 (by decide) (fun c_4 => ?_) (fun c_4 => ?_)
    · replace hw := hw.1 c_4
      refine lv_iload_n hx hb dX0_wayTold_33 rfl (lv_at hl 3 rfl) ?_
      refine lv_bipush (v := (-2)) hx hb dX0_wayTold_34 (by decide) ?_
      refine lv_icmp_ne (tgt := 44) hx hb dX0_wayTold_36 (by decide) (fun c_5 => ?_) (fun c_5 => ?_)
      · replace hw := hw.1 c_5
        refine lv_iload_n hx hb dX0_wayTold_44 rfl (lv_at hl 3 rfl) ?_
        refine lv_i2l hx hb dX0_wayTold_45 rfl ?_
        refine lv_lconst (v := 0) hx hb dX0_wayTold_46 (by decide) ?_
        refine lv_aload_n hx hb dX0_wayTold_47 rfl (lv_at hl 0 rfl) ?_
        refine c_wg_carts X P hk_3 dX0_wayTold_48 ?_
        refine lv_i2l hx hb dX0_wayTold_51 rfl ?_
        refine lv_lconst (v := 1) hx hb dX0_wayTold_52 (by decide) ?_
        refine lv_lsub hx hb dX0_wayTold_53 ?_
        refine cwc_in S hw ⟨Nat.le_of_ble_eq_true rfl, Nat.le_of_ble_eq_true rfl⟩ ⟨Nat.zero_le _, Nat.zero_le _⟩ hl.1 (Nat.le_of_ble_eq_true rfl) dX0_wayTold_54 (fun r_6 hw => ?_)
        refine lv_if_eq (tgt := 69) hx hb dX0_wayTold_57 (by decide) (fun c_7 => ?_) (fun c_7 => ?_)
        · replace hw := hw.1 c_7
          refine lv_bipush (v := (-7)) hx hb dX0_wayTold_69 (by decide) ?_
          exact r_iret hx hb hlk hr hw dX0_wayTold_71
        · replace hw := hw.2 c_7
          refine lv_aload_n hx hb dX0_wayTold_60 rfl (lv_at hl 0 rfl) ?_
          refine c_wg_choice X P hk_3 dX0_wayTold_61 ?_
          refine lv_iload_n hx hb dX0_wayTold_64 rfl (lv_at hl 3 rfl) ?_
          refine c_bald X P (c_warr P hk_3) hw.1 dX0_wayTold_65 ?_
          replace hw := hw.2
          refine lv_goto (tgt := 71) hx hb dX0_wayTold_66 (by decide) ?_
          exact r_iret hx hb hlk hr hw dX0_wayTold_71
      · replace hw := hw.2 c_5
        refine lv_aload_n hx hb dX0_wayTold_39 rfl (lv_at hl 0 rfl) ?_
        refine c_wg_carts X P hk_3 dX0_wayTold_40 ?_
        exact r_iret hx hb hlk hr hw dX0_wayTold_43
    · replace hw := hw.2 c_4
      refine lv_aload_n hx hb dX0_wayTold_28 rfl (lv_at hl 0 rfl) ?_
      refine c_v_kind X P hk_3 ⟨Nat.le_of_ble_eq_true rfl, Nat.le_of_ble_eq_true rfl⟩ hl.1 (Nat.le_of_ble_eq_true rfl) ⟨Nat.zero_le _, Nat.zero_le _⟩ dX0_wayTold_29 ?_
      exact r_iret hx hb hlk hr hw dX0_wayTold_32
  · replace hw := hw.2 c_2
    refine lv_bipush (v := (-5)) hx hb dX0_wayTold_8 (by decide) ?_
    exact r_iret hx hb hlk hr hw dX0_wayTold_10
-- set
def wc_set (Kd : tK) (T : tT) (F : tF) (Ar : tA) (a1 : Int32) (a2 : Int32) (a3 : Int32) (Q : Int32 → tF → tA → Prop) : Prop :=
  wc_isWay Kd T F Ar a1 (fun r_1 => ((r_1 = 0 → Q (-5) F Ar) ∧ (¬ r_1 = 0 → (¬ a1 < 0 ∧ a1 < F 32) ∧ wc_in (a2.toInt64) 0 (((F (wa (a1.toNatClampNeg))).toInt64) - 1) (fun r_4 => ((¬ r_4 = 0 → wc_in (a3.toInt64) 0 48 (fun r_6 => ((¬ r_6 = 0 → (¬ a1 < 0 ∧ a1 < F 32) ∧ vp_in a2 16 ∧ ∀ x4_9 : Int32, x4_9 = (Ar (wa (a1.toNatClampNeg)) a2.toNatClampNeg) → (¬ a1 < 0 ∧ a1 < F 32) ∧ vp_in a2 16 ∧ ∀ Ar_11 : tA, Ar_11 = aset Ar (wa (a1.toNatClampNeg)) a2.toNatClampNeg (vp_nar .byte (a3.toInt8.toInt32)) → Q x4_9 F Ar_11) ∧ (r_6 = 0 → Q (-7) F Ar)))) ∧ (r_4 = 0 → Q (-5) F Ar))))))
set_option maxHeartbeats 4000000 in
theorem twc_set (l : Launch) (D : va_G) (G ad : Nat → Nat) (Kd : tK) (U : tU) (T : tT) (zz : Int32) (F : tF) (Ar : tA) (a1 : Int32) (a2 : Int32) (a3 : Int32) (sz : Nat) (Q : Int32 → tF → tA → Prop) (hw : wc_set Kd T F Ar a1 a2 a3 Q) : Met l yX0_set (ws_ yX0_set cX0_set 5 (some .int)) ({ frames := 3, cells := 0, slots := 0, locals := 64 }) (va_Pc [.ref (ad 0), .int a1, .int a2, .int a3] (cPb D G ad Kd U T zz F Ar sz)) (cQi D G ad Kd U T zz sz Q) 0 0 (cReg G ad Kd U zz sz) := by
  refine c_entry (by decide) (Nat.le_of_ble_eq_true rfl) ?_
  intro p e s m args below meth c ls X hr hsz P hl
  subst hsz
  have X : cCx p s m args meth c cX0_set 5 RX0 D G := X
  obtain ⟨hx, hb, hml, hown, hts, -, hlk, -⟩ := id X
  have S : CallFix p m c _ _ s _ lw_all RX0 := ⟨hx, hb, hml, hown, hts⟩
  have hl : lv_has ls 5 [(0, .ref (ad 0)), (1, .int a1), (2, .int a2), (3, .int a3)] := hl
  refine lv_aload_n hx hb dX0_set_0 rfl (lv_at hl 0 rfl) ?_
  refine lv_iload_n hx hb dX0_set_1 rfl (lv_at hl 1 rfl) ?_
  refine cwc_isWay X P (fun _ h => Or.inr h) hw ⟨Nat.le_of_ble_eq_true rfl, Nat.le_of_ble_eq_true rfl⟩ ⟨Nat.zero_le _, Nat.zero_le _⟩ hl.1 (Nat.le_of_ble_eq_true rfl) dX0_set_2 (fun r_1 hw => ?_)
  refine lv_if_eq (tgt := 34) hx hb dX0_set_5 (by decide) (fun c_2 => ?_) (fun c_2 => ?_)
  · replace hw := hw.1 c_2
    refine lv_bipush (v := (-5)) hx hb dX0_set_34 (by decide) ?_
    exact c_iret X P hr hw dX0_set_36
  · replace hw := hw.2 c_2
    refine lv_iload_n hx hb dX0_set_8 rfl (lv_at hl 2 rfl) ?_
    refine lv_i2l hx hb dX0_set_9 rfl ?_
    refine lv_lconst (v := 0) hx hb dX0_set_10 (by decide) ?_
    refine lv_aload_n hx hb dX0_set_11 rfl (lv_at hl 0 rfl) ?_
    refine cg_ways X P dX0_set_12 ?_
    refine lv_iload_n hx hb dX0_set_15 rfl (lv_at hl 1 rfl) ?_
    refine c_lget X P hw.1.1 hw.1.2 ⟨Nat.le_of_ble_eq_true rfl, Nat.le_of_ble_eq_true rfl⟩ hl.1 (Nat.le_of_ble_eq_true rfl) ⟨Nat.zero_le _, Nat.zero_le _⟩ dX0_set_16 (fun hk_3 => ?_)
    replace hw := hw.2
    refine c_castW X P hk_3 dX0_set_19 ?_
    refine c_wg_carts X P hk_3 dX0_set_22 ?_
    refine lv_i2l hx hb dX0_set_25 rfl ?_
    refine lv_lconst (v := 1) hx hb dX0_set_26 (by decide) ?_
    refine lv_lsub hx hb dX0_set_27 ?_
    refine cwc_in S hw ⟨Nat.le_of_ble_eq_true rfl, Nat.le_of_ble_eq_true rfl⟩ ⟨Nat.zero_le _, Nat.zero_le _⟩ hl.1 (Nat.le_of_ble_eq_true rfl) dX0_set_28 (fun r_4 hw => ?_)
    refine lv_if_ne (tgt := 37) hx hb dX0_set_31 (by decide) (fun c_5 => ?_) (fun c_5 => ?_)
    · replace hw := hw.1 c_5
      refine lv_iload_n hx hb dX0_set_37 rfl (lv_at hl 3 rfl) ?_
      refine lv_i2l hx hb dX0_set_38 rfl ?_
      refine lv_lconst (v := 0) hx hb dX0_set_39 (by decide) ?_
      refine lv_ldc2 (v := 48) hx hb hown (hts _ q795) dX0_set_40 ?_
      refine cwc_in S hw ⟨Nat.le_of_ble_eq_true rfl, Nat.le_of_ble_eq_true rfl⟩ ⟨Nat.zero_le _, Nat.zero_le _⟩ hl.1 (Nat.le_of_ble_eq_true rfl) dX0_set_43 (fun r_6 hw => ?_)
      refine lv_if_ne (tgt := 52) hx hb dX0_set_46 (by decide) (fun c_7 => ?_) (fun c_7 => ?_)
      · replace hw := hw.1 c_7
        refine lv_aload_n hx hb dX0_set_52 rfl (lv_at hl 0 rfl) ?_
        refine cg_ways X P dX0_set_53 ?_
        refine lv_iload_n hx hb dX0_set_56 rfl (lv_at hl 1 rfl) ?_
        refine c_lget X P hw.1.1 hw.1.2 ⟨Nat.le_of_ble_eq_true rfl, Nat.le_of_ble_eq_true rfl⟩ hl.1 (Nat.le_of_ble_eq_true rfl) ⟨Nat.zero_le _, Nat.zero_le _⟩ dX0_set_57 (fun hk_8 => ?_)
        replace hw := hw.2
        refine c_castW X P hk_8 dX0_set_60 ?_
        refine c_wg_choice X P hk_8 dX0_set_63 ?_
        refine lv_iload_n hx hb dX0_set_66 rfl (lv_at hl 2 rfl) ?_
        refine c_bald X P (c_warr P hk_8) hw.1 dX0_set_67 ?_
        replace hw := hw.2
        refine lv_topi (fun x4_9 ex4_9 => ?_)
        replace hw := hw x4_9 ex4_9
        refine lv_istore (lv' := [(4, .int x4_9), (0, .ref (ad 0)), (1, .int a1), (2, .int a2), (3, .int a3)]) hx hb dX0_set_68 hl (by decide) rfl (fun ls hl => ?_)
        refine lv_aload_n hx hb dX0_set_70 rfl (lv_at hl 1 rfl) ?_
        refine cg_ways X P dX0_set_71 ?_
        refine lv_iload_n hx hb dX0_set_74 rfl (lv_at hl 2 rfl) ?_
        refine c_lget X P hw.1.1 hw.1.2 ⟨Nat.le_of_ble_eq_true rfl, Nat.le_of_ble_eq_true rfl⟩ hl.1 (Nat.le_of_ble_eq_true rfl) ⟨Nat.zero_le _, Nat.zero_le _⟩ dX0_set_75 (fun hk_10 => ?_)
        replace hw := hw.2
        refine c_castW X P hk_10 dX0_set_78 ?_
        refine c_wg_choice X P hk_10 dX0_set_81 ?_
        refine lv_iload_n hx hb dX0_set_84 rfl (lv_at hl 3 rfl) ?_
        refine lv_iload_n hx hb dX0_set_85 rfl (lv_at hl 4 rfl) ?_
        refine lv_i2b hx hb dX0_set_86 rfl ?_
        refine c_bast X P (c_warr P hk_10) hw.1 dX0_set_87 (fun Ar_11 H locs eAr_11 P _ => ?_)
        replace hw := hw.2
        replace hw := hw Ar_11 eAr_11
        refine lv_iload hx hb dX0_set_88 (lv_at hl 0 rfl) ?_
        exact c_iret X P hr hw dX0_set_90
      · replace hw := hw.2 c_7
        refine lv_bipush (v := (-7)) hx hb dX0_set_49 (by decide) ?_
        exact c_iret X P hr hw dX0_set_51
    · replace hw := hw.2 c_5
      refine lv_bipush (v := (-5)) hx hb dX0_set_34 (by decide) ?_
      exact c_iret X P hr hw dX0_set_36
-- paid
def wc_paid (Kd : tK) (T : tT) (F : tF) (Ar : tA) (a1 : Nat) (a2 : Int32) (Q : Int32 → Prop) : Prop :=
  Kd a1 ≠ none ∧ vp_in a2 16 ∧ ((¬ (Ar 13 a2.toNatClampNeg) = (-1) → vp_in a2 16 ∧ vp_in a2 16 ∧ vp_in ((24 * ((Ar (wa a1) a2.toNatClampNeg) / 24)) + (Ar 13 a2.toNatClampNeg)) 48 ∧ Q (paysV (kdOf Kd a1) (Ar 2 ((24 * ((Ar (wa a1) a2.toNatClampNeg) / 24)) + (Ar 13 a2.toNatClampNeg)).toNatClampNeg))) ∧ ((Ar 13 a2.toNatClampNeg) = (-1) → Q 0))
set_option maxHeartbeats 4000000 in
theorem twc_paid (l : Launch) (D : va_G) (G ad : Nat → Nat) (Kd : tK) (U : tU) (T : tT) (zz : Int32) (F : tF) (Ar : tA) (a1 : Nat) (a2 : Int32) (sz : Nat) (Q : Int32 → Prop) (hw : wc_paid Kd T F Ar a1 a2 Q) : Met l yX0_paid (ws_ yX0_paid cX0_paid 3 (some .int)) ({ frames := 2, cells := 0, slots := 0, locals := 42 }) (va_Pc [.ref (ad 0), .ref (ad (wo a1)), .int a2] (cPb D G ad Kd U T zz F Ar sz)) (vp_Si Q) 0 0 (fun _ => False) := by
  refine c_entry (by decide) (Nat.le_of_ble_eq_true rfl) ?_
  intro p e s m args below meth c ls X hr hsz P hl
  subst hsz
  have X : cCx p s m args meth c cX0_paid 3 RX0 D G := X
  obtain ⟨hx, hb, hml, hown, hts, -, hlk, -⟩ := id X
  have S : CallFix p m c _ _ s _ lw_all RX0 := ⟨hx, hb, hml, hown, hts⟩
  have hl : lv_has ls 3 [(0, .ref (ad 0)), (1, .ref (ad (wo a1))), (2, .int a2)] := hl
  have hka1 := hw.1
  replace hw := hw.2
  refine lv_aload_n hx hb dX0_paid_0 rfl (lv_at hl 0 rfl) ?_
  refine cg_passed X P dX0_paid_1 ?_
  refine lv_iload_n hx hb dX0_paid_4 rfl (lv_at hl 2 rfl) ?_
  refine c_iald X P (rfl : cArr Kd 13 = some (0, 16)) hw.1 dX0_paid_5 ?_
  replace hw := hw.2
  refine lv_iconst (v := (-1)) hx hb dX0_paid_6 (by decide) ?_
  refine lv_icmp_ne (tgt := 14) hx hb dX0_paid_7 (by decide) (fun c_1 => ?_) (fun c_1 => ?_)
  · replace hw := hw.1 c_1
    refine lv_aload_n hx hb dX0_paid_14 rfl (lv_at hl 1 rfl) ?_
    refine lv_aload_n hx hb dX0_paid_15 rfl (lv_at hl 0 rfl) ?_
    refine cg_toll X P dX0_paid_16 ?_
    refine lv_bipush (v := 24) hx hb dX0_paid_19 (by decide) ?_
    refine lv_aload_n hx hb dX0_paid_21 rfl (lv_at hl 1 rfl) ?_
    refine c_wg_choice X P hka1 dX0_paid_22 ?_
    refine lv_iload_n hx hb dX0_paid_25 rfl (lv_at hl 2 rfl) ?_
    refine c_bald X P (c_warr P hka1) hw.1 dX0_paid_26 ?_
    replace hw := hw.2
    refine lv_bipush (v := 24) hx hb dX0_paid_27 (by decide) ?_
    refine lv_idiv hx hb dX0_paid_29 (by decide) ?_
    refine lv_imul hx hb dX0_paid_30 ?_
    refine lv_aload_n hx hb dX0_paid_31 rfl (lv_at hl 0 rfl) ?_
    refine cg_passed X P dX0_paid_32 ?_
    refine lv_iload_n hx hb dX0_paid_35 rfl (lv_at hl 2 rfl) ?_
    refine c_iald X P (rfl : cArr Kd 13 = some (0, 16)) hw.1 dX0_paid_36 ?_
    replace hw := hw.2
    refine lv_iadd hx hb dX0_paid_37 ?_
    refine c_iald X P (rfl : cArr Kd 2 = some (0, 48)) hw.1 dX0_paid_38 ?_
    replace hw := hw.2
    refine c_v_pays X P hka1 ⟨Nat.le_of_ble_eq_true rfl, Nat.le_of_ble_eq_true rfl⟩ hl.1 (Nat.le_of_ble_eq_true rfl) ⟨Nat.zero_le _, Nat.zero_le _⟩ dX0_paid_39 ?_
    exact r_iret hx hb hlk hr hw dX0_paid_42
  · replace hw := hw.2 c_1
    refine lv_iconst (v := 0) hx hb dX0_paid_10 (by decide) ?_
    refine lv_goto (tgt := 42) hx hb dX0_paid_11 (by decide) ?_
    exact r_iret hx hb hlk hr hw dX0_paid_42
theorem cwc_paid {Q : Int32 → Prop} {a1 : Nat} {a2 : Int32} {Z : State → Prop} {A : Nat → Prop} {cells slots : Nat} {H : Heap} {locs : List Loc} {F : tF} {Ar : tA} (X : cCx p s m args meth c cc nL RX0 D G) (P : cP D A G ad s.heap Kd U T zz F Ar H locs) (hA : ∀ q, s.heap.size ≤ q → A q) (hw : wc_paid Kd T F Ar a1 a2 Q) (hR : 2 + 1 ≤ R.frames ∧ 8 + (3 + 11) + 42 ≤ R.locals) (hC : cells ≤ R.cells ∧ slots ≤ R.slots) (hls : ls.size = nL) (hst : (rest.map fun v => v.category).sum ≤ 8) (hdg : decode cc pc = .ok (.invokevirtual 201, 3)) (kk : ∀ r, Q r → W p l e R s m args below meth c H locs cells slots Z (F0 m (pc + 3) ls (.int r :: rest))) : W p l e R s m args below meth c H locs cells slots Z (F0 m pc ls (.int a2 :: .ref (ad (wo a1)) :: .ref (ad 0) :: rest)) := by
  obtain ⟨hx, hb, hml, hown, hts, hK, hlk, hN⟩ := id X
  exact vp_callSi (vrun_call (va_runV (C := RX0) (As := [.ref (ad (wo a1)), .int a2]) (rest := rest) ⟨hx, hb, hml, hown, hts⟩ (twc_paid l D G ad Kd U T zz F Ar a1 a2 H.size Q hw) (cwV 2 hts (lw_V q1025 q1027 qs25 q64 q1028) rfl rfl rfl (by decide +kernel) hR) (c_prev X P) rfl rfl hls rfl (lv_room hst) hdg hC)) kk
-- says
def wc_says (Kd : tK) (T : tT) (F : tF) (Ar : tA) (a1 : Int32) (a2 : Int32) (a3 : Int32) (a4 : Int32) (a5 : Int32) (a6 : Int32) (a7 : Int32) (Q : Int32 → tF → tA → Prop) : Prop :=
  ∀ Ar_1 : tA, Ar_1 = aset Ar 10 (0 : Int32).toNatClampNeg a2 → ∀ Ar_2 : tA, Ar_2 = aset Ar_1 10 (1 : Int32).toNatClampNeg a3 → ∀ Ar_3 : tA, Ar_3 = aset Ar_2 10 (2 : Int32).toNatClampNeg a4 → ∀ Ar_4 : tA, Ar_4 = aset Ar_3 10 (3 : Int32).toNatClampNeg a5 → ∀ Ar_5 : tA, Ar_5 = aset Ar_4 10 (4 : Int32).toNatClampNeg a6 → ∀ Ar_6 : tA, Ar_6 = aset Ar_5 10 (5 : Int32).toNatClampNeg a7 → (vp_in (F 10) 6 ∧ (F 10) < F 28) ∧ vp_in a1 2 ∧ ∀ x8_15 : Int32, x8_15 = (evT (T (F 10).toNatClampNeg a1.toNatClampNeg) (Ar_6 10)) → Q (if ((-9999) : Int32) < (if x8_15 < 9999 then x8_15 else 9999) then (if x8_15 < 9999 then x8_15 else 9999) else (-9999)) F Ar_6
set_option maxHeartbeats 4000000 in
theorem twc_says (l : Launch) (D : va_G) (G ad : Nat → Nat) (Kd : tK) (U : tU) (T : tT) (zz : Int32) (F : tF) (Ar : tA) (a1 : Int32) (a2 : Int32) (a3 : Int32) (a4 : Int32) (a5 : Int32) (a6 : Int32) (a7 : Int32) (sz : Nat) (Q : Int32 → tF → tA → Prop) (hw : wc_says Kd T F Ar a1 a2 a3 a4 a5 a6 a7 Q) : Met l yX0_says (ws_ yX0_says cX0_says 9 (some .int)) ({ frames := 200, cells := 0, slots := 0, locals := 4600 }) (va_Pc [.ref (ad 0), .int a1, .int a2, .int a3, .int a4, .int a5, .int a6, .int a7] (cPb D G ad Kd U T zz F Ar sz)) (cQi D G ad Kd U T zz sz Q) 0 0 (cReg G ad Kd U zz sz) := by
  refine c_entry (by decide) (Nat.le_of_ble_eq_true rfl) ?_
  intro p e s m args below meth c ls X hr hsz P hl
  subst hsz
  have X : cCx p s m args meth c cX0_says 9 RX0 D G := X
  obtain ⟨hx, hb, hml, hown, hts, -, hlk, -⟩ := id X
  have S : CallFix p m c _ _ s _ lw_all RX0 := ⟨hx, hb, hml, hown, hts⟩
  have hl : lv_has ls 9 [(0, .ref (ad 0)), (1, .int a1), (2, .int a2), (3, .int a3), (4, .int a4), (5, .int a5), (6, .int a6), (7, .int a7)] := hl
  refine lv_aload_n hx hb dX0_says_0 rfl (lv_at hl 0 rfl) ?_
  refine cg_names X P dX0_says_1 ?_
  refine lv_iconst (v := 0) hx hb dX0_says_4 (by decide) ?_
  refine lv_iload_n hx hb dX0_says_5 rfl (lv_at hl 2 rfl) ?_
  refine c_iast X P (rfl : cArr Kd 10 = some (0, 6)) (vin_of (by decide)) dX0_says_6 (fun Ar_1 H locs eAr_1 P _ => ?_)
  replace hw := hw Ar_1 eAr_1
  refine lv_aload_n hx hb dX0_says_7 rfl (lv_at hl 0 rfl) ?_
  refine cg_names X P dX0_says_8 ?_
  refine lv_iconst (v := 1) hx hb dX0_says_11 (by decide) ?_
  refine lv_iload_n hx hb dX0_says_12 rfl (lv_at hl 3 rfl) ?_
  refine c_iast X P (rfl : cArr Kd 10 = some (0, 6)) (vin_of (by decide)) dX0_says_13 (fun Ar_2 H locs eAr_2 P _ => ?_)
  replace hw := hw Ar_2 eAr_2
  refine lv_aload_n hx hb dX0_says_14 rfl (lv_at hl 0 rfl) ?_
  refine cg_names X P dX0_says_15 ?_
  refine lv_iconst (v := 2) hx hb dX0_says_18 (by decide) ?_
  refine lv_iload hx hb dX0_says_19 (lv_at hl 4 rfl) ?_
  refine c_iast X P (rfl : cArr Kd 10 = some (0, 6)) (vin_of (by decide)) dX0_says_21 (fun Ar_3 H locs eAr_3 P _ => ?_)
  replace hw := hw Ar_3 eAr_3
  refine lv_aload_n hx hb dX0_says_22 rfl (lv_at hl 0 rfl) ?_
  refine cg_names X P dX0_says_23 ?_
  refine lv_iconst (v := 3) hx hb dX0_says_26 (by decide) ?_
  refine lv_iload hx hb dX0_says_27 (lv_at hl 5 rfl) ?_
  refine c_iast X P (rfl : cArr Kd 10 = some (0, 6)) (vin_of (by decide)) dX0_says_29 (fun Ar_4 H locs eAr_4 P _ => ?_)
  replace hw := hw Ar_4 eAr_4
  refine lv_aload_n hx hb dX0_says_30 rfl (lv_at hl 0 rfl) ?_
  refine cg_names X P dX0_says_31 ?_
  refine lv_iconst (v := 4) hx hb dX0_says_34 (by decide) ?_
  refine lv_iload hx hb dX0_says_35 (lv_at hl 6 rfl) ?_
  refine c_iast X P (rfl : cArr Kd 10 = some (0, 6)) (vin_of (by decide)) dX0_says_37 (fun Ar_5 H locs eAr_5 P _ => ?_)
  replace hw := hw Ar_5 eAr_5
  refine lv_aload_n hx hb dX0_says_38 rfl (lv_at hl 0 rfl) ?_
  refine cg_names X P dX0_says_39 ?_
  refine lv_iconst (v := 5) hx hb dX0_says_42 (by decide) ?_
  refine lv_iload hx hb dX0_says_43 (lv_at hl 7 rfl) ?_
  refine c_iast X P (rfl : cArr Kd 10 = some (0, 6)) (vin_of (by decide)) dX0_says_45 (fun Ar_6 H locs eAr_6 P _ => ?_)
  replace hw := hw Ar_6 eAr_6
  refine lv_aload_n hx hb dX0_says_46 rfl (lv_at hl 0 rfl) ?_
  refine cg_texts X P dX0_says_47 ?_
  refine lv_aload_n hx hb dX0_says_50 rfl (lv_at hl 0 rfl) ?_
  refine cg_rule X P dX0_says_51 ?_
  refine c_taald X P hw.1.1 hw.1.2 dX0_says_54 (fun t_7 k_8 k_9 h_10 h_11 h_12 => ?_)
  replace hw := hw.2
  refine lv_iload_n hx hb dX0_says_55 rfl (lv_at hl 1 rfl) ?_
  refine c_raald X P h_10 h_11 h_12 hw.1 dX0_says_56 (fun k_13 h_14 => ?_)
  replace hw := hw.2
  refine lv_aload_n hx hb dX0_says_57 rfl (lv_at hl 0 rfl) ?_
  refine cg_names X P dX0_says_58 ?_
  refine c_worth X P h_14 ⟨Nat.le_of_ble_eq_true rfl, Nat.le_of_ble_eq_true rfl⟩ hl.1 (Nat.le_of_ble_eq_true rfl) ⟨Nat.zero_le _, Nat.zero_le _⟩ dX0_says_61 ?_
  refine lv_topi (fun x8_15 ex8_15 => ?_)
  replace hw := hw x8_15 ex8_15
  refine lv_istore (lv' := [(8, .int x8_15), (0, .ref (ad 0)), (1, .int a1), (2, .int a2), (3, .int a3), (4, .int a4), (5, .int a5), (6, .int a6), (7, .int a7)]) hx hb dX0_says_66 hl (by decide) rfl (fun ls hl => ?_)
  refine lv_sipush (v := (-9999)) hx hb dX0_says_68 (by decide) ?_
  refine lv_sipush (v := 9999) hx hb dX0_says_71 (by decide) ?_
  refine lv_iload hx hb dX0_says_74 (lv_at hl 0 rfl) ?_
  refine c_min X ⟨Nat.le_of_ble_eq_true rfl, Nat.le_of_ble_eq_true rfl⟩ hl.1 (Nat.le_of_ble_eq_true rfl) ⟨Nat.zero_le _, Nat.zero_le _⟩ dX0_says_76 ?_
  refine c_max X ⟨Nat.le_of_ble_eq_true rfl, Nat.le_of_ble_eq_true rfl⟩ hl.1 (Nat.le_of_ble_eq_true rfl) ⟨Nat.zero_le _, Nat.zero_le _⟩ dX0_says_79 ?_
  exact c_iret X P hr hw dX0_says_82
theorem cwc_says {Q : Int32 → tF → tA → Prop} {a1 : Int32} {a2 : Int32} {a3 : Int32} {a4 : Int32} {a5 : Int32} {a6 : Int32} {a7 : Int32} {Z : State → Prop} {A : Nat → Prop} {cells slots : Nat} {H : Heap} {locs : List Loc} {F : tF} {Ar : tA} (X : cCx p s m args meth c cc nL RX0 D G) (P : cP D A G ad s.heap Kd U T zz F Ar H locs) (hA : ∀ q, s.heap.size ≤ q → A q) (hw : wc_says Kd T F Ar a1 a2 a3 a4 a5 a6 a7 Q) (hR : 200 + 1 ≤ R.frames ∧ 8 + (9 + 11) + 4600 ≤ R.locals) (hC : cells ≤ R.cells ∧ slots ≤ R.slots) (hls : ls.size = nL) (hst : (rest.map fun v => v.category).sum ≤ 8) (hdg : decode cc pc = .ok (.invokevirtual 204, 3)) (kk : ∀ (r : Int32) (F1 : tF) (A1 : tA) (H1 : Heap) (locs1 : List Loc), Q r F1 A1 → cP D A G ad s.heap Kd U T zz F1 A1 H1 locs1 → W p l e R s m args below meth c H1 locs1 cells slots Z (F0 m (pc + 3) ls (.int r :: rest))) : W p l e R s m args below meth c H locs cells slots Z (F0 m pc ls (.int a7 :: .int a6 :: .int a5 :: .int a4 :: .int a3 :: .int a2 :: .int a1 :: .ref (ad 0) :: rest)) := by
  obtain ⟨hx, hb, hml, hown, hts, hK, hlk, hN⟩ := id X
  exact va_calli (va_runV (C := RX0) (As := [.int a1, .int a2, .int a3, .int a4, .int a5, .int a6, .int a7]) (rest := rest) ⟨hx, hb, hml, hown, hts⟩ (twc_says l D G ad Kd U T zz F Ar a1 a2 a3 a4 a5 a6 a7 H.size Q hw) (cwV 7 hts (lw_V q1044 q1046 qs26 q64 q1047) rfl rfl rfl (by decide +kernel) hR) (c_prev X P) rfl rfl hls rfl (lv_room hst) hdg hC) P.2.2.1 (fun q _ h => P.regA hA q h) (fun q h => P.regA hA q h) (fun r u t H1 locs1 ht hvm hp hB _ _ hS => kk r u.1 u.2 H1 locs1 hp (c_afterA P ht hB hS))
-- asks
def wc_asks (Kd : tK) (T : tT) (F : tF) (Ar : tA) (a1 : Nat) (a2 : Int32) (a3 : Int32) (Q : Int32 → tF → tA → Prop) : Prop :=
  Kd a1 ≠ none ∧ vp_in a2 16 ∧ ∀ x4_1 : Int32, x4_1 = (Ar 6 a2.toNatClampNeg) → vp_in a2 16 ∧ vp_in a2 16 ∧ ∀ x5_2 : Int32, x5_2 = ((Ar 13 a2.toNatClampNeg) - (Ar 12 a2.toNatClampNeg)) → vp_in x4_1 4 ∧ vp_in a2 16 ∧ vp_in a2 16 ∧ vp_in x4_1 4 ∧ vp_in a2 16 ∧ wc_paid Kd T F Ar a1 a2 (fun r_3 => wc_says Kd T F Ar a3 x5_2 (if (0 : Int32) < ((Ar 3 x4_1.toNatClampNeg) - (Ar 13 a2.toNatClampNeg)) then ((Ar 3 x4_1.toNatClampNeg) - (Ar 13 a2.toNatClampNeg)) else 0) (if (0 : Int32) < ((Ar 13 a2.toNatClampNeg) - (Ar 3 x4_1.toNatClampNeg)) then ((Ar 13 a2.toNatClampNeg) - (Ar 3 x4_1.toNatClampNeg)) else 0) (Ar 13 a2.toNatClampNeg) x4_1 r_3 (fun r_4 F_5 Ar_6 => Q r_4 F_5 Ar_6))
set_option maxHeartbeats 4000000 in
theorem twc_asks (l : Launch) (D : va_G) (G ad : Nat → Nat) (Kd : tK) (U : tU) (T : tT) (zz : Int32) (F : tF) (Ar : tA) (a1 : Nat) (a2 : Int32) (a3 : Int32) (sz : Nat) (Q : Int32 → tF → tA → Prop) (hw : wc_asks Kd T F Ar a1 a2 a3 Q) : Met l yX0_asks (ws_ yX0_asks cX0_asks 6 (some .int)) ({ frames := 201, cells := 0, slots := 0, locals := 4628 }) (va_Pc [.ref (ad 0), .ref (ad (wo a1)), .int a2, .int a3] (cPb D G ad Kd U T zz F Ar sz)) (cQi D G ad Kd U T zz sz Q) 0 0 (cReg G ad Kd U zz sz) := by
  refine c_entry (by decide) (Nat.le_of_ble_eq_true rfl) ?_
  intro p e s m args below meth c ls X hr hsz P hl
  subst hsz
  have X : cCx p s m args meth c cX0_asks 6 RX0 D G := X
  obtain ⟨hx, hb, hml, hown, hts, -, hlk, -⟩ := id X
  have S : CallFix p m c _ _ s _ lw_all RX0 := ⟨hx, hb, hml, hown, hts⟩
  have hl : lv_has ls 6 [(0, .ref (ad 0)), (1, .ref (ad (wo a1))), (2, .int a2), (3, .int a3)] := hl
  have hka1 := hw.1
  replace hw := hw.2
  refine lv_aload_n hx hb dX0_asks_0 rfl (lv_at hl 0 rfl) ?_
  refine cg_sortOf X P dX0_asks_1 ?_
  refine lv_iload_n hx hb dX0_asks_4 rfl (lv_at hl 2 rfl) ?_
  refine c_iald X P (rfl : cArr Kd 6 = some (0, 16)) hw.1 dX0_asks_5 ?_
  replace hw := hw.2
  refine lv_topi (fun x4_1 ex4_1 => ?_)
  replace hw := hw x4_1 ex4_1
  refine lv_istore (lv' := [(4, .int x4_1), (0, .ref (ad 0)), (1, .ref (ad (wo a1))), (2, .int a2), (3, .int a3)]) hx hb dX0_asks_6 hl (by decide) rfl (fun ls hl => ?_)
  refine lv_aload_n hx hb dX0_asks_8 rfl (lv_at hl 1 rfl) ?_
  refine cg_passed X P dX0_asks_9 ?_
  refine lv_iload_n hx hb dX0_asks_12 rfl (lv_at hl 3 rfl) ?_
  refine c_iald X P (rfl : cArr Kd 13 = some (0, 16)) hw.1 dX0_asks_13 ?_
  replace hw := hw.2
  refine lv_aload_n hx hb dX0_asks_14 rfl (lv_at hl 1 rfl) ?_
  refine cg_came X P dX0_asks_15 ?_
  refine lv_iload_n hx hb dX0_asks_18 rfl (lv_at hl 3 rfl) ?_
  refine c_iald X P (rfl : cArr Kd 12 = some (0, 16)) hw.1 dX0_asks_19 ?_
  replace hw := hw.2
  refine lv_isub hx hb dX0_asks_20 ?_
  refine lv_topi (fun x5_2 ex5_2 => ?_)
  replace hw := hw x5_2 ex5_2
  refine lv_istore (lv' := [(5, .int x5_2), (4, .int x4_1), (0, .ref (ad 0)), (1, .ref (ad (wo a1))), (2, .int a2), (3, .int a3)]) hx hb dX0_asks_21 hl (by decide) rfl (fun ls hl => ?_)
  refine lv_aload_n hx hb dX0_asks_23 rfl (lv_at hl 2 rfl) ?_
  refine lv_iload_n hx hb dX0_asks_24 rfl (lv_at hl 5 rfl) ?_
  refine lv_iload hx hb dX0_asks_25 (lv_at hl 0 rfl) ?_
  refine lv_iconst (v := 0) hx hb dX0_asks_27 (by decide) ?_
  refine lv_aload_n hx hb dX0_asks_28 rfl (lv_at hl 2 rfl) ?_
  refine cg_wish X P dX0_asks_29 ?_
  refine lv_iload hx hb dX0_asks_32 (lv_at hl 1 rfl) ?_
  refine c_iald X P (rfl : cArr Kd 3 = some (0, 4)) hw.1 dX0_asks_34 ?_
  replace hw := hw.2
  refine lv_aload_n hx hb dX0_asks_35 rfl (lv_at hl 2 rfl) ?_
  refine cg_passed X P dX0_asks_36 ?_
  refine lv_iload_n hx hb dX0_asks_39 rfl (lv_at hl 4 rfl) ?_
  refine c_iald X P (rfl : cArr Kd 13 = some (0, 16)) hw.1 dX0_asks_40 ?_
  replace hw := hw.2
  refine lv_isub hx hb dX0_asks_41 ?_
  refine c_max X ⟨Nat.le_of_ble_eq_true rfl, Nat.le_of_ble_eq_true rfl⟩ hl.1 (Nat.le_of_ble_eq_true rfl) ⟨Nat.zero_le _, Nat.zero_le _⟩ dX0_asks_42 ?_
  refine lv_iconst (v := 0) hx hb dX0_asks_45 (by decide) ?_
  refine lv_aload_n hx hb dX0_asks_46 rfl (lv_at hl 2 rfl) ?_
  refine cg_passed X P dX0_asks_47 ?_
  refine lv_iload_n hx hb dX0_asks_50 rfl (lv_at hl 4 rfl) ?_
  refine c_iald X P (rfl : cArr Kd 13 = some (0, 16)) hw.1 dX0_asks_51 ?_
  replace hw := hw.2
  refine lv_aload_n hx hb dX0_asks_52 rfl (lv_at hl 2 rfl) ?_
  refine cg_wish X P dX0_asks_53 ?_
  refine lv_iload hx hb dX0_asks_56 (lv_at hl 1 rfl) ?_
  refine c_iald X P (rfl : cArr Kd 3 = some (0, 4)) hw.1 dX0_asks_58 ?_
  replace hw := hw.2
  refine lv_isub hx hb dX0_asks_59 ?_
  refine c_max X ⟨Nat.le_of_ble_eq_true rfl, Nat.le_of_ble_eq_true rfl⟩ hl.1 (Nat.le_of_ble_eq_true rfl) ⟨Nat.zero_le _, Nat.zero_le _⟩ dX0_asks_60 ?_
  refine lv_aload_n hx hb dX0_asks_63 rfl (lv_at hl 2 rfl) ?_
  refine cg_passed X P dX0_asks_64 ?_
  refine lv_iload_n hx hb dX0_asks_67 rfl (lv_at hl 4 rfl) ?_
  refine c_iald X P (rfl : cArr Kd 13 = some (0, 16)) hw.1 dX0_asks_68 ?_
  replace hw := hw.2
  refine lv_iload hx hb dX0_asks_69 (lv_at hl 1 rfl) ?_
  refine lv_aload_n hx hb dX0_asks_71 rfl (lv_at hl 2 rfl) ?_
  refine lv_aload_n hx hb dX0_asks_72 rfl (lv_at hl 3 rfl) ?_
  refine lv_iload_n hx hb dX0_asks_73 rfl (lv_at hl 4 rfl) ?_
  refine cwc_paid X P (fun _ h => Or.inr h) hw ⟨Nat.le_of_ble_eq_true rfl, Nat.le_of_ble_eq_true rfl⟩ ⟨Nat.zero_le _, Nat.zero_le _⟩ hl.1 (Nat.le_of_ble_eq_true rfl) dX0_asks_74 (fun r_3 hw => ?_)
  refine cwc_says X P (fun _ h => Or.inr h) hw ⟨Nat.le_of_ble_eq_true rfl, Nat.le_of_ble_eq_true rfl⟩ ⟨Nat.zero_le _, Nat.zero_le _⟩ hl.1 (Nat.le_of_ble_eq_true rfl) dX0_asks_77 (fun r_4 F_5 Ar_6 H locs hw P => ?_)
  exact c_iret X P hr hw dX0_asks_80
theorem cwc_asks {Q : Int32 → tF → tA → Prop} {a1 : Nat} {a2 : Int32} {a3 : Int32} {Z : State → Prop} {A : Nat → Prop} {cells slots : Nat} {H : Heap} {locs : List Loc} {F : tF} {Ar : tA} (X : cCx p s m args meth c cc nL RX0 D G) (P : cP D A G ad s.heap Kd U T zz F Ar H locs) (hA : ∀ q, s.heap.size ≤ q → A q) (hw : wc_asks Kd T F Ar a1 a2 a3 Q) (hR : 201 + 1 ≤ R.frames ∧ 8 + (6 + 11) + 4628 ≤ R.locals) (hC : cells ≤ R.cells ∧ slots ≤ R.slots) (hls : ls.size = nL) (hst : (rest.map fun v => v.category).sum ≤ 8) (hdg : decode cc pc = .ok (.invokevirtual 208, 3)) (kk : ∀ (r : Int32) (F1 : tF) (A1 : tA) (H1 : Heap) (locs1 : List Loc), Q r F1 A1 → cP D A G ad s.heap Kd U T zz F1 A1 H1 locs1 → W p l e R s m args below meth c H1 locs1 cells slots Z (F0 m (pc + 3) ls (.int r :: rest))) : W p l e R s m args below meth c H locs cells slots Z (F0 m pc ls (.int a3 :: .int a2 :: .ref (ad (wo a1)) :: .ref (ad 0) :: rest)) := by
  obtain ⟨hx, hb, hml, hown, hts, hK, hlk, hN⟩ := id X
  exact va_calli (va_runV (C := RX0) (As := [.ref (ad (wo a1)), .int a2, .int a3]) (rest := rest) ⟨hx, hb, hml, hown, hts⟩ (twc_asks l D G ad Kd U T zz F Ar a1 a2 a3 H.size Q hw) (cwV 3 hts (lw_V q1020 q1022 qs24 q64 q1023) rfl rfl rfl (by decide +kernel) hR) (c_prev X P) rfl rfl hls rfl (lv_room hst) hdg hC) P.2.2.1 (fun q _ h => P.regA hA q h) (fun q h => P.regA hA q h) (fun r u t H1 locs1 ht hvm hp hB _ _ hS => kk r u.1 u.2 H1 locs1 hp (c_afterA P ht hB hS))
-- cost
def wc_cost (Kd : tK) (T : tT) (F : tF) (Ar : tA) (a1 : Nat) (a2 : Int32) (Q : Int32 → tF → tA → Prop) : Prop :=
  Kd a1 ≠ none ∧ vp_in a2 16 ∧ ((¬ (Ar (wa a1) a2.toNatClampNeg) = 48 → vp_in a2 16 ∧ ((¬ (Ar 13 a2.toNatClampNeg) = (-1) → wc_asks Kd T F Ar a1 a2 0 (fun r_3 F_4 Ar_5 => vp_in a2 16 ∧ vp_in a2 16 ∧ Q (r_3 - (sparesV (kdOf Kd a1) ((Ar_5 13 a2.toNatClampNeg) - (Ar_5 12 a2.toNatClampNeg)))) F_4 Ar_5)) ∧ ((Ar 13 a2.toNatClampNeg) = (-1) → Q 5000 F Ar))) ∧ ((Ar (wa a1) a2.toNatClampNeg) = 48 → vp_in a2 16 ∧ vp_in (Ar 6 a2.toNatClampNeg) 4 ∧ Q (Ar 4 (Ar 6 a2.toNatClampNeg).toNatClampNeg) F Ar))
set_option maxHeartbeats 4000000 in
theorem twc_cost (l : Launch) (D : va_G) (G ad : Nat → Nat) (Kd : tK) (U : tU) (T : tT) (zz : Int32) (F : tF) (Ar : tA) (a1 : Nat) (a2 : Int32) (sz : Nat) (Q : Int32 → tF → tA → Prop) (hw : wc_cost Kd T F Ar a1 a2 Q) : Met l yX0_cost (ws_ yX0_cost cX0_cost 3 (some .int)) ({ frames := 202, cells := 0, slots := 0, locals := 4653 }) (va_Pc [.ref (ad 0), .ref (ad (wo a1)), .int a2] (cPb D G ad Kd U T zz F Ar sz)) (cQi D G ad Kd U T zz sz Q) 0 0 (cReg G ad Kd U zz sz) := by
  refine c_entry (by decide) (Nat.le_of_ble_eq_true rfl) ?_
  intro p e s m args below meth c ls X hr hsz P hl
  subst hsz
  have X : cCx p s m args meth c cX0_cost 3 RX0 D G := X
  obtain ⟨hx, hb, hml, hown, hts, -, hlk, -⟩ := id X
  have S : CallFix p m c _ _ s _ lw_all RX0 := ⟨hx, hb, hml, hown, hts⟩
  have hl : lv_has ls 3 [(0, .ref (ad 0)), (1, .ref (ad (wo a1))), (2, .int a2)] := hl
  have hka1 := hw.1
  replace hw := hw.2
  refine lv_aload_n hx hb dX0_cost_0 rfl (lv_at hl 1 rfl) ?_
  refine c_wg_choice X P hka1 dX0_cost_1 ?_
  refine lv_iload_n hx hb dX0_cost_4 rfl (lv_at hl 2 rfl) ?_
  refine c_bald X P (c_warr P hka1) hw.1 dX0_cost_5 ?_
  replace hw := hw.2
  refine lv_bipush (v := 48) hx hb dX0_cost_6 (by decide) ?_
  refine lv_icmp_ne (tgt := 23) hx hb dX0_cost_8 (by decide) (fun c_1 => ?_) (fun c_1 => ?_)
  · replace hw := hw.1 c_1
    refine lv_aload_n hx hb dX0_cost_23 rfl (lv_at hl 0 rfl) ?_
    refine cg_passed X P dX0_cost_24 ?_
    refine lv_iload_n hx hb dX0_cost_27 rfl (lv_at hl 2 rfl) ?_
    refine c_iald X P (rfl : cArr Kd 13 = some (0, 16)) hw.1 dX0_cost_28 ?_
    replace hw := hw.2
    refine lv_iconst (v := (-1)) hx hb dX0_cost_29 (by decide) ?_
    refine lv_icmp_ne (tgt := 37) hx hb dX0_cost_30 (by decide) (fun c_2 => ?_) (fun c_2 => ?_)
    · replace hw := hw.1 c_2
      refine lv_aload_n hx hb dX0_cost_37 rfl (lv_at hl 0 rfl) ?_
      refine lv_aload_n hx hb dX0_cost_38 rfl (lv_at hl 1 rfl) ?_
      refine lv_iload_n hx hb dX0_cost_39 rfl (lv_at hl 2 rfl) ?_
      refine lv_iconst (v := 0) hx hb dX0_cost_40 (by decide) ?_
      refine cwc_asks X P (fun _ h => Or.inr h) hw ⟨Nat.le_of_ble_eq_true rfl, Nat.le_of_ble_eq_true rfl⟩ ⟨Nat.zero_le _, Nat.zero_le _⟩ hl.1 (Nat.le_of_ble_eq_true rfl) dX0_cost_41 (fun r_3 F_4 Ar_5 H locs hw P => ?_)
      refine lv_aload_n hx hb dX0_cost_44 rfl (lv_at hl 1 rfl) ?_
      refine lv_aload_n hx hb dX0_cost_45 rfl (lv_at hl 0 rfl) ?_
      refine cg_passed X P dX0_cost_46 ?_
      refine lv_iload_n hx hb dX0_cost_49 rfl (lv_at hl 2 rfl) ?_
      refine c_iald X P (rfl : cArr Kd 13 = some (0, 16)) hw.1 dX0_cost_50 ?_
      replace hw := hw.2
      refine lv_aload_n hx hb dX0_cost_51 rfl (lv_at hl 0 rfl) ?_
      refine cg_came X P dX0_cost_52 ?_
      refine lv_iload_n hx hb dX0_cost_55 rfl (lv_at hl 2 rfl) ?_
      refine c_iald X P (rfl : cArr Kd 12 = some (0, 16)) hw.1 dX0_cost_56 ?_
      replace hw := hw.2
      refine lv_isub hx hb dX0_cost_57 ?_
      refine c_v_spares X P hka1 ⟨Nat.le_of_ble_eq_true rfl, Nat.le_of_ble_eq_true rfl⟩ hl.1 (Nat.le_of_ble_eq_true rfl) ⟨Nat.zero_le _, Nat.zero_le _⟩ dX0_cost_58 ?_
      refine lv_isub hx hb dX0_cost_61 ?_
      exact c_iret X P hr hw dX0_cost_62
    · replace hw := hw.2 c_2
      refine lv_sipush (v := 5000) hx hb dX0_cost_33 (by decide) ?_
      exact c_iret X P hr hw dX0_cost_36
  · replace hw := hw.2 c_1
    refine lv_aload_n hx hb dX0_cost_11 rfl (lv_at hl 0 rfl) ?_
    refine cg_stay X P dX0_cost_12 ?_
    refine lv_aload_n hx hb dX0_cost_15 rfl (lv_at hl 0 rfl) ?_
    refine cg_sortOf X P dX0_cost_16 ?_
    refine lv_iload_n hx hb dX0_cost_19 rfl (lv_at hl 2 rfl) ?_
    refine c_iald X P (rfl : cArr Kd 6 = some (0, 16)) hw.1 dX0_cost_20 ?_
    replace hw := hw.2
    refine c_iald X P (rfl : cArr Kd 4 = some (0, 4)) hw.1 dX0_cost_21 ?_
    replace hw := hw.2
    exact c_iret X P hr hw dX0_cost_22
theorem cwc_cost {Q : Int32 → tF → tA → Prop} {a1 : Nat} {a2 : Int32} {Z : State → Prop} {A : Nat → Prop} {cells slots : Nat} {H : Heap} {locs : List Loc} {F : tF} {Ar : tA} (X : cCx p s m args meth c cc nL RX0 D G) (P : cP D A G ad s.heap Kd U T zz F Ar H locs) (hA : ∀ q, s.heap.size ≤ q → A q) (hw : wc_cost Kd T F Ar a1 a2 Q) (hR : 202 + 1 ≤ R.frames ∧ 8 + (3 + 11) + 4653 ≤ R.locals) (hC : cells ≤ R.cells ∧ slots ≤ R.slots) (hls : ls.size = nL) (hst : (rest.map fun v => v.category).sum ≤ 8) (hdg : decode cc pc = .ok (.invokevirtual 214, 3)) (kk : ∀ (r : Int32) (F1 : tF) (A1 : tA) (H1 : Heap) (locs1 : List Loc), Q r F1 A1 → cP D A G ad s.heap Kd U T zz F1 A1 H1 locs1 → W p l e R s m args below meth c H1 locs1 cells slots Z (F0 m (pc + 3) ls (.int r :: rest))) : W p l e R s m args below meth c H locs cells slots Z (F0 m pc ls (.int a2 :: .ref (ad (wo a1)) :: .ref (ad 0) :: rest)) := by
  obtain ⟨hx, hb, hml, hown, hts, hK, hlk, hN⟩ := id X
  exact va_calli (va_runV (C := RX0) (As := [.ref (ad (wo a1)), .int a2]) (rest := rest) ⟨hx, hb, hml, hown, hts⟩ (twc_cost l D G ad Kd U T zz F Ar a1 a2 H.size Q hw) (cwV 2 hts (lw_V q1016 q1018 qs23 q64 q1019) rfl rfl rfl (by decide +kernel) hR) (c_prev X P) rfl rfl hls rfl (lv_room hst) hdg hC) P.2.2.1 (fun q _ h => P.regA hA q h) (fun q h => P.regA hA q h) (fun r u t H1 locs1 ht hvm hp hB _ _ hS => kk r u.1 u.2 H1 locs1 hp (c_afterA P ht hB hS))
-- keyOf
def wc_keyOf (Kd : tK) (T : tT) (F : tF) (Ar : tA) (a1 : Nat) (a2 : Int32) (Q : Int32 → Prop) : Prop :=
  Kd a1 ≠ none ∧ vp_in a2 16 ∧ vp_in a2 16 ∧ Q (keyV (kdOf Kd a1) a2 (Ar 12 a2.toNatClampNeg) (Ar 6 a2.toNatClampNeg))
set_option maxHeartbeats 4000000 in
theorem twc_keyOf (l : Launch) (D : va_G) (G ad : Nat → Nat) (Kd : tK) (U : tU) (T : tT) (zz : Int32) (F : tF) (Ar : tA) (a1 : Nat) (a2 : Int32) (sz : Nat) (Q : Int32 → Prop) (hw : wc_keyOf Kd T F Ar a1 a2 Q) : Met l yX0_keyOf (ws_ yX0_keyOf cX0_keyOf 3 (some .int)) ({ frames := 2, cells := 0, slots := 0, locals := 46 }) (va_Pc [.ref (ad 0), .ref (ad (wo a1)), .int a2] (cPb D G ad Kd U T zz F Ar sz)) (vp_Si Q) 0 0 (fun _ => False) := by
  refine c_entry (by decide) (Nat.le_of_ble_eq_true rfl) ?_
  intro p e s m args below meth c ls X hr hsz P hl
  subst hsz
  have X : cCx p s m args meth c cX0_keyOf 3 RX0 D G := X
  obtain ⟨hx, hb, hml, hown, hts, -, hlk, -⟩ := id X
  have S : CallFix p m c _ _ s _ lw_all RX0 := ⟨hx, hb, hml, hown, hts⟩
  have hl : lv_has ls 3 [(0, .ref (ad 0)), (1, .ref (ad (wo a1))), (2, .int a2)] := hl
  have hka1 := hw.1
  replace hw := hw.2
  refine lv_aload_n hx hb dX0_keyOf_0 rfl (lv_at hl 1 rfl) ?_
  refine lv_iload_n hx hb dX0_keyOf_1 rfl (lv_at hl 2 rfl) ?_
  refine lv_aload_n hx hb dX0_keyOf_2 rfl (lv_at hl 0 rfl) ?_
  refine cg_came X P dX0_keyOf_3 ?_
  refine lv_iload_n hx hb dX0_keyOf_6 rfl (lv_at hl 2 rfl) ?_
  refine c_iald X P (rfl : cArr Kd 12 = some (0, 16)) hw.1 dX0_keyOf_7 ?_
  replace hw := hw.2
  refine lv_aload_n hx hb dX0_keyOf_8 rfl (lv_at hl 0 rfl) ?_
  refine cg_sortOf X P dX0_keyOf_9 ?_
  refine lv_iload_n hx hb dX0_keyOf_12 rfl (lv_at hl 2 rfl) ?_
  refine c_iald X P (rfl : cArr Kd 6 = some (0, 16)) hw.1 dX0_keyOf_13 ?_
  replace hw := hw.2
  refine c_v_key X P hka1 ⟨Nat.le_of_ble_eq_true rfl, Nat.le_of_ble_eq_true rfl⟩ hl.1 (Nat.le_of_ble_eq_true rfl) ⟨Nat.zero_le _, Nat.zero_le _⟩ dX0_keyOf_14 ?_
  exact r_iret hx hb hlk hr hw dX0_keyOf_17
theorem cwc_keyOf {Q : Int32 → Prop} {a1 : Nat} {a2 : Int32} {Z : State → Prop} {A : Nat → Prop} {cells slots : Nat} {H : Heap} {locs : List Loc} {F : tF} {Ar : tA} (X : cCx p s m args meth c cc nL RX0 D G) (P : cP D A G ad s.heap Kd U T zz F Ar H locs) (hA : ∀ q, s.heap.size ≤ q → A q) (hw : wc_keyOf Kd T F Ar a1 a2 Q) (hR : 2 + 1 ≤ R.frames ∧ 8 + (3 + 11) + 46 ≤ R.locals) (hC : cells ≤ R.cells ∧ slots ≤ R.slots) (hls : ls.size = nL) (hst : (rest.map fun v => v.category).sum ≤ 8) (hdg : decode cc pc = .ok (.invokevirtual 189, 3)) (kk : ∀ r, Q r → W p l e R s m args below meth c H locs cells slots Z (F0 m (pc + 3) ls (.int r :: rest))) : W p l e R s m args below meth c H locs cells slots Z (F0 m pc ls (.int a2 :: .ref (ad (wo a1)) :: .ref (ad 0) :: rest)) := by
  obtain ⟨hx, hb, hml, hown, hts, hK, hlk, hN⟩ := id X
  exact vp_callSi (vrun_call (va_runV (C := RX0) (As := [.ref (ad (wo a1)), .int a2]) (rest := rest) ⟨hx, hb, hml, hown, hts⟩ (twc_keyOf l D G ad Kd U T zz F Ar a1 a2 H.size Q hw) (cwV 2 hts (lw_V q985 q987 qs21 q64 q988) rfl rfl rfl (by decide +kernel) hR) (c_prev X P) rfl rfl hls rfl (lv_room hst) hdg hC)) kk
-- waits
def wc_waits (Kd : tK) (T : tT) (F : tF) (Ar : tA) (a1 : Nat) (a2 : Int32) (a3 : Int32) (a4 : Int32) (Q : Int32 → Prop) : Prop :=
  Kd a1 ≠ none ∧ vp_in a2 16 ∧ (((Ar 12 a2.toNatClampNeg) = (-1) → Q 0) ∧ (¬ (Ar 12 a2.toNatClampNeg) = (-1) → vp_in a2 16 ∧ ((a4 < (Ar 12 a2.toNatClampNeg) → Q 0) ∧ (¬ a4 < (Ar 12 a2.toNatClampNeg) → vp_in a2 16 ∧ ((¬ (Ar 13 a2.toNatClampNeg) = (-1) → Q 0) ∧ ((Ar 13 a2.toNatClampNeg) = (-1) → vp_in a2 16 ∧ ((¬ ((Ar (wa a1) a2.toNatClampNeg) / 24) = a3 → Q 0) ∧ (((Ar (wa a1) a2.toNatClampNeg) / 24) = a3 → Q 1))))))))
set_option maxHeartbeats 4000000 in
theorem twc_waits (l : Launch) (D : va_G) (G ad : Nat → Nat) (Kd : tK) (U : tU) (T : tT) (zz : Int32) (F : tF) (Ar : tA) (a1 : Nat) (a2 : Int32) (a3 : Int32) (a4 : Int32) (sz : Nat) (Q : Int32 → Prop) (hw : wc_waits Kd T F Ar a1 a2 a3 a4 Q) : Met l yX0_waits (ws_ yX0_waits cX0_waits 5 (some .boolean)) ({ frames := 0, cells := 0, slots := 0, locals := 0 }) (va_Pc [.ref (ad 0), .ref (ad (wo a1)), .int a2, .int a3, .int a4] (cPb D G ad Kd U T zz F Ar sz)) (vp_Si Q) 0 0 (fun _ => False) := by
  refine c_entry (by decide) (Nat.le_of_ble_eq_true rfl) ?_
  intro p e s m args below meth c ls X hr hsz P hl
  subst hsz
  have X : cCx p s m args meth c cX0_waits 5 RX0 D G := X
  obtain ⟨hx, hb, hml, hown, hts, -, hlk, -⟩ := id X
  have S : CallFix p m c _ _ s _ lw_all RX0 := ⟨hx, hb, hml, hown, hts⟩
  have hl : lv_has ls 5 [(0, .ref (ad 0)), (1, .ref (ad (wo a1))), (2, .int a2), (3, .int a3), (4, .int a4)] := hl
  have hka1 := hw.1
  replace hw := hw.2
  refine lv_aload_n hx hb dX0_waits_0 rfl (lv_at hl 0 rfl) ?_
  refine cg_came X P dX0_waits_1 ?_
  refine lv_iload_n hx hb dX0_waits_4 rfl (lv_at hl 2 rfl) ?_
  refine c_iald X P (rfl : cArr Kd 12 = some (0, 16)) hw.1 dX0_waits_5 ?_
  replace hw := hw.2
  refine lv_iconst (v := (-1)) hx hb dX0_waits_6 (by decide) ?_
  refine lv_icmp_eq (tgt := 48) hx hb dX0_waits_7 (by decide) (fun c_1 => ?_) (fun c_1 => ?_)
  · replace hw := hw.1 c_1
    refine lv_iconst (v := 0) hx hb dX0_waits_48 (by decide) ?_
    exact r_zret hx hb hlk hr (Or.inl rfl) hw dX0_waits_49
  · replace hw := hw.2 c_1
    refine lv_aload_n hx hb dX0_waits_10 rfl (lv_at hl 0 rfl) ?_
    refine cg_came X P dX0_waits_11 ?_
    refine lv_iload_n hx hb dX0_waits_14 rfl (lv_at hl 2 rfl) ?_
    refine c_iald X P (rfl : cArr Kd 12 = some (0, 16)) hw.1 dX0_waits_15 ?_
    replace hw := hw.2
    refine lv_iload hx hb dX0_waits_16 (lv_at hl 4 rfl) ?_
    refine lv_icmp_gt (tgt := 48) hx hb dX0_waits_18 (by decide) (fun c_2 => ?_) (fun c_2 => ?_)
    · replace hw := hw.1 c_2
      refine lv_iconst (v := 0) hx hb dX0_waits_48 (by decide) ?_
      exact r_zret hx hb hlk hr (Or.inl rfl) hw dX0_waits_49
    · replace hw := hw.2 c_2
      refine lv_aload_n hx hb dX0_waits_21 rfl (lv_at hl 0 rfl) ?_
      refine cg_passed X P dX0_waits_22 ?_
      refine lv_iload_n hx hb dX0_waits_25 rfl (lv_at hl 2 rfl) ?_
      refine c_iald X P (rfl : cArr Kd 13 = some (0, 16)) hw.1 dX0_waits_26 ?_
      replace hw := hw.2
      refine lv_iconst (v := (-1)) hx hb dX0_waits_27 (by decide) ?_
      refine lv_icmp_ne (tgt := 48) hx hb dX0_waits_28 (by decide) (fun c_3 => ?_) (fun c_3 => ?_)
      · replace hw := hw.1 c_3
        refine lv_iconst (v := 0) hx hb dX0_waits_48 (by decide) ?_
        exact r_zret hx hb hlk hr (Or.inl rfl) hw dX0_waits_49
      · replace hw := hw.2 c_3
        refine lv_aload_n hx hb dX0_waits_31 rfl (lv_at hl 1 rfl) ?_
        refine c_wg_choice X P hka1 dX0_waits_32 ?_
        refine lv_iload_n hx hb dX0_waits_35 rfl (lv_at hl 2 rfl) ?_
        refine c_bald X P (c_warr P hka1) hw.1 dX0_waits_36 ?_
        replace hw := hw.2
        refine lv_bipush (v := 24) hx hb dX0_waits_37 (by decide) ?_
        refine lv_idiv hx hb dX0_waits_39 (by decide) ?_
        refine lv_iload_n hx hb dX0_waits_40 rfl (lv_at hl 3 rfl) ?_
        refine lv_icmp_ne (tgt := 48) hx hb dX0_waits_41 (by decide) (fun c_4 => ?_) (fun c_4 => ?_)
        · replace hw := hw.1 c_4
          refine lv_iconst (v := 0) hx hb dX0_waits_48 (by decide) ?_
          exact r_zret hx hb hlk hr (Or.inl rfl) hw dX0_waits_49
        · replace hw := hw.2 c_4
          refine lv_iconst (v := 1) hx hb dX0_waits_44 (by decide) ?_
          refine lv_goto (tgt := 49) hx hb dX0_waits_45 (by decide) ?_
          exact r_zret hx hb hlk hr (Or.inr rfl) hw dX0_waits_49
theorem cwc_waits {Q : Int32 → Prop} {a1 : Nat} {a2 : Int32} {a3 : Int32} {a4 : Int32} {Z : State → Prop} {A : Nat → Prop} {cells slots : Nat} {H : Heap} {locs : List Loc} {F : tF} {Ar : tA} (X : cCx p s m args meth c cc nL RX0 D G) (P : cP D A G ad s.heap Kd U T zz F Ar H locs) (hA : ∀ q, s.heap.size ≤ q → A q) (hw : wc_waits Kd T F Ar a1 a2 a3 a4 Q) (hR : 0 + 1 ≤ R.frames ∧ 8 + (5 + 11) + 0 ≤ R.locals) (hC : cells ≤ R.cells ∧ slots ≤ R.slots) (hls : ls.size = nL) (hst : (rest.map fun v => v.category).sum ≤ 8) (hdg : decode cc pc = .ok (.invokevirtual 185, 3)) (kk : ∀ r, Q r → W p l e R s m args below meth c H locs cells slots Z (F0 m (pc + 3) ls (.int r :: rest))) : W p l e R s m args below meth c H locs cells slots Z (F0 m pc ls (.int a4 :: .int a3 :: .int a2 :: .ref (ad (wo a1)) :: .ref (ad 0) :: rest)) := by
  obtain ⟨hx, hb, hml, hown, hts, hK, hlk, hN⟩ := id X
  exact vp_callSi (vrun_call (va_runV (C := RX0) (As := [.ref (ad (wo a1)), .int a2, .int a3, .int a4]) (rest := rest) ⟨hx, hb, hml, hown, hts⟩ (twc_waits l D G ad Kd U T zz F Ar a1 a2 a3 a4 H.size Q hw) (cwV 4 hts (lw_V q981 q983 qs20 q64 q984) rfl rfl rfl (by decide +kernel) hR) (c_prev X P) rfl rfl hls rfl (lv_room hst) hdg hC)) kk
end CC0
