/-! by gen/comp.py: methods of the class, 1 -/
set_option maxRecDepth 100000
section CC1
variable {p : Program} {l : Launch} {e : Env} {R : Room} {s : State} {m : MethodId} {args : Array Value} {below : List Frame} {meth : Method} {c : Code}
variable {cc : ByteArray} {nL pc : Nat} {ls : Array Slot} {rest : List Value} {D : va_G} {G ad : Nat → Nat} {Kd : tK} {U : tU} {T : tT} {zz : Int32}
-- first
def wc_first_J54 (Kd : tK) (T : tT) (F : tF) (Ar : tA) (y1_5 : Nat) (y2_5 : Int32) (y3_5 : Int32) (y4_5 : Int32) (y5_5 : Int32) (Kh6_1 : Int32 → Int32 → Prop) (Q : Int32 → Prop) : Prop :=
  (Kh6_1 y4_5 (y5_5 + 1))
set_option maxHeartbeats 4000000 in
theorem kwc_first_J54 {Q : Int32 → Prop} (X : cCx p s m args meth c cX0_first 6 RX0 D G) (hr : meth.sig.returnType = (some .int)) {F : tF} {Ar : tA} (y1_5 : Nat) (y2_5 : Int32) (y3_5 : Int32) (y4_5 : Int32) (y5_5 : Int32) (Kh6_1 : Int32 → Int32 → Prop) (hky1_5 : Kd y1_5 ≠ none) {ls : Array Slot} (P : cP D (cReg G ad Kd U zz s.heap.size) G ad s.heap Kd U T zz F Ar s.heap []) (hl : lv_has ls 6 [(0, .ref (ad 0)), (1, .ref (ad (wo y1_5))), (2, .int y2_5), (3, .int y3_5), (4, .int y4_5), (5, .int y5_5)]) (hw : wc_first_J54 Kd T F Ar y1_5 y2_5 y3_5 y4_5 y5_5 Kh6_1 Q) (hKh6_1 : ∀ (w4_ : Int32) (w5_ : Int32) (ls : Array Slot), lv_has ls 6 [(0, .ref (ad 0)), (1, .ref (ad (wo y1_5))), (2, .int y2_5), (3, .int y3_5), (4, .int w4_), (5, .int w5_)] → Kh6_1 w4_ w5_ → W p l e ({ frames := 3, cells := 0, slots := 0, locals := 68 }) s m args below meth c s.heap [] 0 0 (MQ below (vp_Si Q) args s 0 0 (fun _ => False)) (F0 m 6 ls [])) : W p l e ({ frames := 3, cells := 0, slots := 0, locals := 68 }) s m args below meth c s.heap [] 0 0 (MQ below (vp_Si Q) args s 0 0 (fun _ => False)) (F0 m 54 ls []) := by
  obtain ⟨hx, hb, hml, hown, hts, -, hlk, -⟩ := id X
  have S : CallFix p m c _ _ s args lw_all RX0 := ⟨hx, hb, hml, hown, hts⟩
  refine lv_iinc (v := (y5_5 + 1)) (lv' := [(5, .int (y5_5 + 1)), (0, .ref (ad 0)), (1, .ref (ad (wo y1_5))), (2, .int y2_5), (3, .int y3_5), (4, .int y4_5)]) hx hb dX0_first_54 hl (k := 5) rfl rfl (by decide) rfl (fun ls hl => ?_)
  refine lv_goto (tgt := 6) hx hb dX0_first_57 (by decide) ?_
  exact hKh6_1 _ _ _ (lv_sub hl [1, 2, 3, 4, 5, 0] rfl) hw
def wc_first_J50 (Kd : tK) (T : tT) (F : tF) (Ar : tA) (y1_7 : Nat) (y2_7 : Int32) (y3_7 : Int32) (y5_7 : Int32) (Kh6_1 : Int32 → Int32 → Prop) (Q : Int32 → Prop) : Prop :=
  (wc_first_J54 Kd T F Ar y1_7 y2_7 y3_7 y5_7 y5_7 Kh6_1 Q)
set_option maxHeartbeats 4000000 in
theorem kwc_first_J50 {Q : Int32 → Prop} (X : cCx p s m args meth c cX0_first 6 RX0 D G) (hr : meth.sig.returnType = (some .int)) {F : tF} {Ar : tA} (y1_7 : Nat) (y2_7 : Int32) (y3_7 : Int32) (y5_7 : Int32) (Kh6_1 : Int32 → Int32 → Prop) (hky1_7 : Kd y1_7 ≠ none) {ls : Array Slot} (P : cP D (cReg G ad Kd U zz s.heap.size) G ad s.heap Kd U T zz F Ar s.heap []) (hl : lv_has ls 6 [(0, .ref (ad 0)), (1, .ref (ad (wo y1_7))), (2, .int y2_7), (3, .int y3_7), (5, .int y5_7)]) (hw : wc_first_J50 Kd T F Ar y1_7 y2_7 y3_7 y5_7 Kh6_1 Q) (hKh6_1 : ∀ (w4_ : Int32) (w5_ : Int32) (ls : Array Slot), lv_has ls 6 [(0, .ref (ad 0)), (1, .ref (ad (wo y1_7))), (2, .int y2_7), (3, .int y3_7), (4, .int w4_), (5, .int w5_)] → Kh6_1 w4_ w5_ → W p l e ({ frames := 3, cells := 0, slots := 0, locals := 68 }) s m args below meth c s.heap [] 0 0 (MQ below (vp_Si Q) args s 0 0 (fun _ => False)) (F0 m 6 ls [])) : W p l e ({ frames := 3, cells := 0, slots := 0, locals := 68 }) s m args below meth c s.heap [] 0 0 (MQ below (vp_Si Q) args s 0 0 (fun _ => False)) (F0 m 50 ls []) := by
  obtain ⟨hx, hb, hml, hown, hts, -, hlk, -⟩ := id X
  have S : CallFix p m c _ _ s args lw_all RX0 := ⟨hx, hb, hml, hown, hts⟩
  refine lv_iload hx hb dX0_first_50 (lv_at hl 4 rfl) ?_
  refine lv_istore (lv' := [(4, .int y5_7), (0, .ref (ad 0)), (1, .ref (ad (wo y1_7))), (2, .int y2_7), (3, .int y3_7), (5, .int y5_7)]) hx hb dX0_first_52 hl (by decide) rfl (fun ls hl => ?_)
  exact kwc_first_J54 X hr _ _ _ _ _ _ hky1_7 P (lv_sub hl [1, 2, 3, 4, 0, 5] rfl) hw hKh6_1
def wc_first_L6 (Kd : tK) (T : tT) (F : tF) (Ar : tA) (y1_1 : Nat) (y2_1 : Int32) (y3_1 : Int32) (Q : Int32 → Prop) : Nat → Int32 → Int32 → Prop
  | 0, _, _ => False
  | f6 + 1, y4_1, y5_1 =>
    (((F (wa y1_1)) ≤ y5_1 → Q y4_1) ∧ (¬ (F (wa y1_1)) ≤ y5_1 → wc_waits Kd T F Ar y1_1 y5_1 y2_1 y3_1 (fun r_3 => ((r_3 = 0 → (wc_first_J54 Kd T F Ar y1_1 y2_1 y3_1 y4_1 y5_1 (wc_first_L6 Kd T F Ar y1_1 y2_1 y3_1 Q f6) Q)) ∧ (¬ r_3 = 0 → ((y4_1 = (-1) → (wc_first_J50 Kd T F Ar y1_1 y2_1 y3_1 y5_1 (wc_first_L6 Kd T F Ar y1_1 y2_1 y3_1 Q f6) Q)) ∧ (¬ y4_1 = (-1) → wc_keyOf Kd T F Ar y1_1 y5_1 (fun r_8 => wc_keyOf Kd T F Ar y1_1 y4_1 (fun r_9 => ((r_9 ≤ r_8 → (wc_first_J54 Kd T F Ar y1_1 y2_1 y3_1 y4_1 y5_1 (wc_first_L6 Kd T F Ar y1_1 y2_1 y3_1 Q f6) Q)) ∧ (¬ r_9 ≤ r_8 → (wc_first_J50 Kd T F Ar y1_1 y2_1 y3_1 y5_1 (wc_first_L6 Kd T F Ar y1_1 y2_1 y3_1 Q f6) Q))))))))))))
set_option maxHeartbeats 4000000 in
theorem kwc_first_L6 {Q : Int32 → Prop} (X : cCx p s m args meth c cX0_first 6 RX0 D G) (hr : meth.sig.returnType = (some .int)) (Kd : tK) (T : tT) (F : tF) (Ar : tA) (y1_1 : Nat) (y2_1 : Int32) (y3_1 : Int32) (P : cP D (cReg G ad Kd U zz s.heap.size) G ad s.heap Kd U T zz F Ar s.heap []) (hky1_1 : Kd y1_1 ≠ none) : ∀ (n : Nat) (y4_1 : Int32) (y5_1 : Int32) (ls : Array Slot), lv_has ls 6 [(0, .ref (ad 0)), (1, .ref (ad (wo y1_1))), (2, .int y2_1), (3, .int y3_1), (4, .int y4_1), (5, .int y5_1)] → wc_first_L6 Kd T F Ar y1_1 y2_1 y3_1 Q n y4_1 y5_1 → W p l e ({ frames := 3, cells := 0, slots := 0, locals := 68 }) s m args below meth c s.heap [] 0 0 (MQ below (vp_Si Q) args s 0 0 (fun _ => False)) (F0 m 6 ls []) := by
  obtain ⟨hx, hb, hml, hown, hts, -, hlk, -⟩ := id X
  have S : CallFix p m c _ _ s args lw_all RX0 := ⟨hx, hb, hml, hown, hts⟩
  intro n
  induction n with
  | zero =>
    intro y4_1 y5_1 ls hl hw
    exact hw.elim
  | succ n ih =>
    intro y4_1 y5_1 ls hl hw
    have hKh6_1 := ih
    refine lv_iload hx hb dX0_first_6 (lv_at hl 5 rfl) ?_
    refine lv_aload_n hx hb dX0_first_8 rfl (lv_at hl 1 rfl) ?_
    refine c_wg_carts X P hky1_1 dX0_first_9 ?_
    refine lv_icmp_ge (tgt := 60) hx hb dX0_first_12 (by decide) (fun c_2 => ?_) (fun c_2 => ?_)
    · replace hw := hw.1 c_2
      refine lv_iload hx hb dX0_first_60 (lv_at hl 4 rfl) ?_
      exact r_iret hx hb hlk hr hw dX0_first_62
    · replace hw := hw.2 c_2
      refine lv_aload_n hx hb dX0_first_15 rfl (lv_at hl 0 rfl) ?_
      refine lv_aload_n hx hb dX0_first_16 rfl (lv_at hl 1 rfl) ?_
      refine lv_iload hx hb dX0_first_17 (lv_at hl 5 rfl) ?_
      refine lv_iload_n hx hb dX0_first_19 rfl (lv_at hl 2 rfl) ?_
      refine lv_iload_n hx hb dX0_first_20 rfl (lv_at hl 3 rfl) ?_
      refine cwc_waits X P (fun _ h => Or.inr h) hw ⟨Nat.le_of_ble_eq_true rfl, Nat.le_of_ble_eq_true rfl⟩ ⟨Nat.zero_le _, Nat.zero_le _⟩ hl.1 (Nat.le_of_ble_eq_true rfl) dX0_first_21 (fun r_3 hw => ?_)
      refine lv_if_eq (tgt := 54) hx hb dX0_first_24 (by decide) (fun c_4 => ?_) (fun c_4 => ?_)
      · replace hw := hw.1 c_4
        exact kwc_first_J54 X hr _ _ _ _ _ _ hky1_1 P (lv_sub hl [0, 1, 2, 3, 4, 5] rfl) hw hKh6_1
      · replace hw := hw.2 c_4
        refine lv_iload hx hb dX0_first_27 (lv_at hl 4 rfl) ?_
        refine lv_iconst (v := (-1)) hx hb dX0_first_29 (by decide) ?_
        refine lv_icmp_eq (tgt := 50) hx hb dX0_first_30 (by decide) (fun c_6 => ?_) (fun c_6 => ?_)
        · replace hw := hw.1 c_6
          exact kwc_first_J50 X hr _ _ _ _ _ hky1_1 P (lv_sub hl [0, 1, 2, 3, 5] rfl) hw hKh6_1
        · replace hw := hw.2 c_6
          refine lv_aload_n hx hb dX0_first_33 rfl (lv_at hl 0 rfl) ?_
          refine lv_aload_n hx hb dX0_first_34 rfl (lv_at hl 1 rfl) ?_
          refine lv_iload hx hb dX0_first_35 (lv_at hl 5 rfl) ?_
          refine cwc_keyOf X P (fun _ h => Or.inr h) hw ⟨Nat.le_of_ble_eq_true rfl, Nat.le_of_ble_eq_true rfl⟩ ⟨Nat.zero_le _, Nat.zero_le _⟩ hl.1 (Nat.le_of_ble_eq_true rfl) dX0_first_37 (fun r_8 hw => ?_)
          refine lv_aload_n hx hb dX0_first_40 rfl (lv_at hl 0 rfl) ?_
          refine lv_aload_n hx hb dX0_first_41 rfl (lv_at hl 1 rfl) ?_
          refine lv_iload hx hb dX0_first_42 (lv_at hl 4 rfl) ?_
          refine cwc_keyOf X P (fun _ h => Or.inr h) hw ⟨Nat.le_of_ble_eq_true rfl, Nat.le_of_ble_eq_true rfl⟩ ⟨Nat.zero_le _, Nat.zero_le _⟩ hl.1 (Nat.le_of_ble_eq_true rfl) dX0_first_44 (fun r_9 hw => ?_)
          refine lv_icmp_ge (tgt := 54) hx hb dX0_first_47 (by decide) (fun c_10 => ?_) (fun c_10 => ?_)
          · replace hw := hw.1 c_10
            exact kwc_first_J54 X hr _ _ _ _ _ _ hky1_1 P (lv_sub hl [0, 1, 2, 3, 4, 5] rfl) hw hKh6_1
          · replace hw := hw.2 c_10
            exact kwc_first_J50 X hr _ _ _ _ _ hky1_1 P (lv_sub hl [0, 1, 2, 3, 5] rfl) hw hKh6_1
def wc_first (Kd : tK) (T : tT) (F : tF) (Ar : tA) (a1 : Nat) (a2 : Int32) (a3 : Int32) (Q : Int32 → Prop) : Prop :=
  Kd a1 ≠ none ∧ (∃ n6, wc_first_L6 Kd T F Ar a1 a2 a3 Q n6 (-1) 0)
set_option maxHeartbeats 4000000 in
theorem twc_first (l : Launch) (D : va_G) (G ad : Nat → Nat) (Kd : tK) (U : tU) (T : tT) (zz : Int32) (F : tF) (Ar : tA) (a1 : Nat) (a2 : Int32) (a3 : Int32) (sz : Nat) (Q : Int32 → Prop) (hw : wc_first Kd T F Ar a1 a2 a3 Q) : Met l yX0_first (ws_ yX0_first cX0_first 6 (some .int)) ({ frames := 3, cells := 0, slots := 0, locals := 68 }) (va_Pc [.ref (ad 0), .ref (ad (wo a1)), .int a2, .int a3] (cPb D G ad Kd U T zz F Ar sz)) (vp_Si Q) 0 0 (fun _ => False) := by
  refine c_entry (by decide) (Nat.le_of_ble_eq_true rfl) ?_
  intro p e s m args below meth c ls X hr hsz P hl
  subst hsz
  have X : cCx p s m args meth c cX0_first 6 RX0 D G := X
  obtain ⟨hx, hb, hml, hown, hts, -, hlk, -⟩ := id X
  have S : CallFix p m c _ _ s _ lw_all RX0 := ⟨hx, hb, hml, hown, hts⟩
  have hl : lv_has ls 6 [(0, .ref (ad 0)), (1, .ref (ad (wo a1))), (2, .int a2), (3, .int a3)] := hl
  have hka1 := hw.1
  replace hw := hw.2
  refine lv_iconst (v := (-1)) hx hb dX0_first_0 (by decide) ?_
  refine lv_istore (lv' := [(4, .int (-1)), (0, .ref (ad 0)), (1, .ref (ad (wo a1))), (2, .int a2), (3, .int a3)]) hx hb dX0_first_1 hl (by decide) rfl (fun ls hl => ?_)
  refine lv_iconst (v := 0) hx hb dX0_first_3 (by decide) ?_
  refine lv_istore (lv' := [(5, .int 0), (4, .int (-1)), (0, .ref (ad 0)), (1, .ref (ad (wo a1))), (2, .int a2), (3, .int a3)]) hx hb dX0_first_4 hl (by decide) rfl (fun ls hl => ?_)
  obtain ⟨n_11, hw⟩ := hw
  refine kwc_first_L6 X hr _ _ _ _ _ _ _ P  hka1  n_11 _ _ _ (lv_sub hl [2, 3, 4, 5, 1, 0] rfl) hw
theorem cwc_first {Q : Int32 → Prop} {a1 : Nat} {a2 : Int32} {a3 : Int32} {Z : State → Prop} {A : Nat → Prop} {cells slots : Nat} {H : Heap} {locs : List Loc} {F : tF} {Ar : tA} (X : cCx p s m args meth c cc nL RX0 D G) (P : cP D A G ad s.heap Kd U T zz F Ar H locs) (hA : ∀ q, s.heap.size ≤ q → A q) (hw : wc_first Kd T F Ar a1 a2 a3 Q) (hR : 3 + 1 ≤ R.frames ∧ 8 + (6 + 11) + 68 ≤ R.locals) (hC : cells ≤ R.cells ∧ slots ≤ R.slots) (hls : ls.size = nL) (hst : (rest.map fun v => v.category).sum ≤ 8) (hdg : decode cc pc = .ok (.invokevirtual 178, 3)) (kk : ∀ r, Q r → W p l e R s m args below meth c H locs cells slots Z (F0 m (pc + 3) ls (.int r :: rest))) : W p l e R s m args below meth c H locs cells slots Z (F0 m pc ls (.int a3 :: .int a2 :: .ref (ad (wo a1)) :: .ref (ad 0) :: rest)) := by
  obtain ⟨hx, hb, hml, hown, hts, hK, hlk, hN⟩ := id X
  exact vp_callSi (vrun_call (va_runV (C := RX0) (As := [.ref (ad (wo a1)), .int a2, .int a3]) (rest := rest) ⟨hx, hb, hml, hown, hts⟩ (twc_first l D G ad Kd U T zz F Ar a1 a2 a3 H.size Q hw) (cwV 3 hts (lw_V q977 q979 qs19 q64 q980) rfl rfl rfl (by decide +kernel) hR) (c_prev X P) rfl rfl hls rfl (lv_room hst) hdg hC)) kk
-- waiting
def wc_waiting_J30 (Kd : tK) (T : tT) (F : tF) (Ar : tA) (y1_5 : Nat) (y2_5 : Int32) (y3_5 : Int32) (y4_5 : Int32) (y5_5 : Int32) (Kh6_1 : Int32 → Int32 → Prop) (Q : Int32 → Prop) : Prop :=
  (Kh6_1 y4_5 (y5_5 + 1))
set_option maxHeartbeats 4000000 in
theorem kwc_waiting_J30 {Q : Int32 → Prop} (X : cCx p s m args meth c cX0_waiting 6 RX0 D G) (hr : meth.sig.returnType = (some .int)) {F : tF} {Ar : tA} (y1_5 : Nat) (y2_5 : Int32) (y3_5 : Int32) (y4_5 : Int32) (y5_5 : Int32) (Kh6_1 : Int32 → Int32 → Prop) (hky1_5 : Kd y1_5 ≠ none) {ls : Array Slot} (P : cP D (cReg G ad Kd U zz s.heap.size) G ad s.heap Kd U T zz F Ar s.heap []) (hl : lv_has ls 6 [(0, .ref (ad 0)), (1, .ref (ad (wo y1_5))), (2, .int y2_5), (3, .int y3_5), (4, .int y4_5), (5, .int y5_5)]) (hw : wc_waiting_J30 Kd T F Ar y1_5 y2_5 y3_5 y4_5 y5_5 Kh6_1 Q) (hKh6_1 : ∀ (w4_ : Int32) (w5_ : Int32) (ls : Array Slot), lv_has ls 6 [(0, .ref (ad 0)), (1, .ref (ad (wo y1_5))), (2, .int y2_5), (3, .int y3_5), (4, .int w4_), (5, .int w5_)] → Kh6_1 w4_ w5_ → W p l e ({ frames := 1, cells := 0, slots := 0, locals := 24 }) s m args below meth c s.heap [] 0 0 (MQ below (vp_Si Q) args s 0 0 (fun _ => False)) (F0 m 6 ls [])) : W p l e ({ frames := 1, cells := 0, slots := 0, locals := 24 }) s m args below meth c s.heap [] 0 0 (MQ below (vp_Si Q) args s 0 0 (fun _ => False)) (F0 m 30 ls []) := by
  obtain ⟨hx, hb, hml, hown, hts, -, hlk, -⟩ := id X
  have S : CallFix p m c _ _ s args lw_all RX0 := ⟨hx, hb, hml, hown, hts⟩
  refine lv_iinc (v := (y5_5 + 1)) (lv' := [(5, .int (y5_5 + 1)), (0, .ref (ad 0)), (1, .ref (ad (wo y1_5))), (2, .int y2_5), (3, .int y3_5), (4, .int y4_5)]) hx hb dX0_waiting_30 hl (k := 5) rfl rfl (by decide) rfl (fun ls hl => ?_)
  refine lv_goto (tgt := 6) hx hb dX0_waiting_33 (by decide) ?_
  exact hKh6_1 _ _ _ (lv_sub hl [1, 2, 3, 4, 5, 0] rfl) hw
def wc_waiting_L6 (Kd : tK) (T : tT) (F : tF) (Ar : tA) (y1_1 : Nat) (y2_1 : Int32) (y3_1 : Int32) (Q : Int32 → Prop) : Nat → Int32 → Int32 → Prop
  | 0, _, _ => False
  | f6 + 1, y4_1, y5_1 =>
    (((F (wa y1_1)) ≤ y5_1 → Q y4_1) ∧ (¬ (F (wa y1_1)) ≤ y5_1 → wc_waits Kd T F Ar y1_1 y5_1 y2_1 y3_1 (fun r_3 => ((r_3 = 0 → (wc_waiting_J30 Kd T F Ar y1_1 y2_1 y3_1 y4_1 y5_1 (wc_waiting_L6 Kd T F Ar y1_1 y2_1 y3_1 Q f6) Q)) ∧ (¬ r_3 = 0 → (wc_waiting_J30 Kd T F Ar y1_1 y2_1 y3_1 (y4_1 + 1) y5_1 (wc_waiting_L6 Kd T F Ar y1_1 y2_1 y3_1 Q f6) Q))))))
set_option maxHeartbeats 4000000 in
theorem kwc_waiting_L6 {Q : Int32 → Prop} (X : cCx p s m args meth c cX0_waiting 6 RX0 D G) (hr : meth.sig.returnType = (some .int)) (Kd : tK) (T : tT) (F : tF) (Ar : tA) (y1_1 : Nat) (y2_1 : Int32) (y3_1 : Int32) (P : cP D (cReg G ad Kd U zz s.heap.size) G ad s.heap Kd U T zz F Ar s.heap []) (hky1_1 : Kd y1_1 ≠ none) : ∀ (n : Nat) (y4_1 : Int32) (y5_1 : Int32) (ls : Array Slot), lv_has ls 6 [(0, .ref (ad 0)), (1, .ref (ad (wo y1_1))), (2, .int y2_1), (3, .int y3_1), (4, .int y4_1), (5, .int y5_1)] → wc_waiting_L6 Kd T F Ar y1_1 y2_1 y3_1 Q n y4_1 y5_1 → W p l e ({ frames := 1, cells := 0, slots := 0, locals := 24 }) s m args below meth c s.heap [] 0 0 (MQ below (vp_Si Q) args s 0 0 (fun _ => False)) (F0 m 6 ls []) := by
  obtain ⟨hx, hb, hml, hown, hts, -, hlk, -⟩ := id X
  have S : CallFix p m c _ _ s args lw_all RX0 := ⟨hx, hb, hml, hown, hts⟩
  intro n
  induction n with
  | zero =>
    intro y4_1 y5_1 ls hl hw
    exact hw.elim
  | succ n ih =>
    intro y4_1 y5_1 ls hl hw
    have hKh6_1 := ih
    refine lv_iload hx hb dX0_waiting_6 (lv_at hl 5 rfl) ?_
    refine lv_aload_n hx hb dX0_waiting_8 rfl (lv_at hl 1 rfl) ?_
    refine c_wg_carts X P hky1_1 dX0_waiting_9 ?_
    refine lv_icmp_ge (tgt := 36) hx hb dX0_waiting_12 (by decide) (fun c_2 => ?_) (fun c_2 => ?_)
    · replace hw := hw.1 c_2
      refine lv_iload hx hb dX0_waiting_36 (lv_at hl 4 rfl) ?_
      exact r_iret hx hb hlk hr hw dX0_waiting_38
    · replace hw := hw.2 c_2
      refine lv_aload_n hx hb dX0_waiting_15 rfl (lv_at hl 0 rfl) ?_
      refine lv_aload_n hx hb dX0_waiting_16 rfl (lv_at hl 1 rfl) ?_
      refine lv_iload hx hb dX0_waiting_17 (lv_at hl 5 rfl) ?_
      refine lv_iload_n hx hb dX0_waiting_19 rfl (lv_at hl 2 rfl) ?_
      refine lv_iload_n hx hb dX0_waiting_20 rfl (lv_at hl 3 rfl) ?_
      refine cwc_waits X P (fun _ h => Or.inr h) hw ⟨Nat.le_of_ble_eq_true rfl, Nat.le_of_ble_eq_true rfl⟩ ⟨Nat.zero_le _, Nat.zero_le _⟩ hl.1 (Nat.le_of_ble_eq_true rfl) dX0_waiting_21 (fun r_3 hw => ?_)
      refine lv_if_eq (tgt := 30) hx hb dX0_waiting_24 (by decide) (fun c_4 => ?_) (fun c_4 => ?_)
      · replace hw := hw.1 c_4
        exact kwc_waiting_J30 X hr _ _ _ _ _ _ hky1_1 P (lv_sub hl [0, 1, 2, 3, 4, 5] rfl) hw hKh6_1
      · replace hw := hw.2 c_4
        refine lv_iinc (v := (y4_1 + 1)) (lv' := [(4, .int (y4_1 + 1)), (0, .ref (ad 0)), (1, .ref (ad (wo y1_1))), (2, .int y2_1), (3, .int y3_1), (5, .int y5_1)]) hx hb dX0_waiting_27 hl (k := 4) rfl rfl (by decide) rfl (fun ls hl => ?_)
        exact kwc_waiting_J30 X hr _ _ _ _ _ _ hky1_1 P (lv_sub hl [1, 2, 3, 4, 0, 5] rfl) hw hKh6_1
def wc_waiting (Kd : tK) (T : tT) (F : tF) (Ar : tA) (a1 : Nat) (a2 : Int32) (a3 : Int32) (Q : Int32 → Prop) : Prop :=
  Kd a1 ≠ none ∧ (∃ n6, wc_waiting_L6 Kd T F Ar a1 a2 a3 Q n6 0 0)
set_option maxHeartbeats 4000000 in
theorem twc_waiting (l : Launch) (D : va_G) (G ad : Nat → Nat) (Kd : tK) (U : tU) (T : tT) (zz : Int32) (F : tF) (Ar : tA) (a1 : Nat) (a2 : Int32) (a3 : Int32) (sz : Nat) (Q : Int32 → Prop) (hw : wc_waiting Kd T F Ar a1 a2 a3 Q) : Met l yX0_waiting (ws_ yX0_waiting cX0_waiting 6 (some .int)) ({ frames := 1, cells := 0, slots := 0, locals := 24 }) (va_Pc [.ref (ad 0), .ref (ad (wo a1)), .int a2, .int a3] (cPb D G ad Kd U T zz F Ar sz)) (vp_Si Q) 0 0 (fun _ => False) := by
  refine c_entry (by decide) (Nat.le_of_ble_eq_true rfl) ?_
  intro p e s m args below meth c ls X hr hsz P hl
  subst hsz
  have X : cCx p s m args meth c cX0_waiting 6 RX0 D G := X
  obtain ⟨hx, hb, hml, hown, hts, -, hlk, -⟩ := id X
  have S : CallFix p m c _ _ s _ lw_all RX0 := ⟨hx, hb, hml, hown, hts⟩
  have hl : lv_has ls 6 [(0, .ref (ad 0)), (1, .ref (ad (wo a1))), (2, .int a2), (3, .int a3)] := hl
  have hka1 := hw.1
  replace hw := hw.2
  refine lv_iconst (v := 0) hx hb dX0_waiting_0 (by decide) ?_
  refine lv_istore (lv' := [(4, .int 0), (0, .ref (ad 0)), (1, .ref (ad (wo a1))), (2, .int a2), (3, .int a3)]) hx hb dX0_waiting_1 hl (by decide) rfl (fun ls hl => ?_)
  refine lv_iconst (v := 0) hx hb dX0_waiting_3 (by decide) ?_
  refine lv_istore (lv' := [(5, .int 0), (4, .int 0), (0, .ref (ad 0)), (1, .ref (ad (wo a1))), (2, .int a2), (3, .int a3)]) hx hb dX0_waiting_4 hl (by decide) rfl (fun ls hl => ?_)
  obtain ⟨n_6, hw⟩ := hw
  refine kwc_waiting_L6 X hr _ _ _ _ _ _ _ P  hka1  n_6 _ _ _ (lv_sub hl [2, 3, 4, 5, 1, 0] rfl) hw
theorem cwc_waiting {Q : Int32 → Prop} {a1 : Nat} {a2 : Int32} {a3 : Int32} {Z : State → Prop} {A : Nat → Prop} {cells slots : Nat} {H : Heap} {locs : List Loc} {F : tF} {Ar : tA} (X : cCx p s m args meth c cc nL RX0 D G) (P : cP D A G ad s.heap Kd U T zz F Ar H locs) (hA : ∀ q, s.heap.size ≤ q → A q) (hw : wc_waiting Kd T F Ar a1 a2 a3 Q) (hR : 1 + 1 ≤ R.frames ∧ 8 + (6 + 11) + 24 ≤ R.locals) (hC : cells ≤ R.cells ∧ slots ≤ R.slots) (hls : ls.size = nL) (hst : (rest.map fun v => v.category).sum ≤ 8) (hdg : decode cc pc = .ok (.invokevirtual 182, 3)) (kk : ∀ r, Q r → W p l e R s m args below meth c H locs cells slots Z (F0 m (pc + 3) ls (.int r :: rest))) : W p l e R s m args below meth c H locs cells slots Z (F0 m pc ls (.int a3 :: .int a2 :: .ref (ad (wo a1)) :: .ref (ad 0) :: rest)) := by
  obtain ⟨hx, hb, hml, hown, hts, hK, hlk, hN⟩ := id X
  exact vp_callSi (vrun_call (va_runV (C := RX0) (As := [.ref (ad (wo a1)), .int a2, .int a3]) (rest := rest) ⟨hx, hb, hml, hown, hts⟩ (twc_waiting l D G ad Kd U T zz F Ar a1 a2 a3 H.size Q hw) (cwV 3 hts (lw_V q1012 q1014 qs22 q64 q1015) rfl rfl rfl (by decide +kernel) hR) (c_prev X P) rfl rfl hls rfl (lv_room hst) hdg hC)) kk
-- runs
def wc_runs_J90 (Kd : tK) (T : tT) (F : tF) (Ar : tA) (y1_9 : Nat) (y2_9 : Int32) (Kh7_2 : tA → Int32 → Prop) (Q : tF → tA → Prop) : Prop :=
  (Kh7_2 Ar (y2_9 + 1))
set_option maxHeartbeats 4000000 in
theorem kwc_runs_J90 {Q : tF → tA → Prop} (X : cCx p s m args meth c cX0_runs 6 RX0 D G) (hr : meth.sig.returnType = none) {F : tF} {Ar : tA} (y1_9 : Nat) (y2_9 : Int32) (Kh7_2 : tA → Int32 → Prop) (hky1_9 : Kd y1_9 ≠ none) {H : Heap} {locs : List Loc} {ls : Array Slot} (P : cP D (cReg G ad Kd U zz s.heap.size) G ad s.heap Kd U T zz F Ar H locs) (hl : lv_has ls 6 [(0, .ref (ad 0)), (1, .ref (ad (wo y1_9))), (2, .int y2_9)]) (hw : wc_runs_J90 Kd T F Ar y1_9 y2_9 Kh7_2 Q) (hKh7_2 : ∀ (Ar_ : tA) (w2_ : Int32) (H : Heap) (locs : List Loc) (ls : Array Slot), cP D (cReg G ad Kd U zz s.heap.size) G ad s.heap Kd U T zz F Ar_ H locs → lv_has ls 6 [(0, .ref (ad 0)), (1, .ref (ad (wo y1_9))), (2, .int w2_)] → Kh7_2 Ar_ w2_ → W p l e ({ frames := 4, cells := 0, slots := 0, locals := 93 }) s m args below meth c H locs 0 0 (MQ below (cQv D G ad Kd U T zz s.heap.size Q) args s 0 0 (cReg G ad Kd U zz s.heap.size)) (F0 m 7 ls [])) : W p l e ({ frames := 4, cells := 0, slots := 0, locals := 93 }) s m args below meth c H locs 0 0 (MQ below (cQv D G ad Kd U T zz s.heap.size Q) args s 0 0 (cReg G ad Kd U zz s.heap.size)) (F0 m 90 ls []) := by
  obtain ⟨hx, hb, hml, hown, hts, -, hlk, -⟩ := id X
  have S : CallFix p m c _ _ s args lw_all RX0 := ⟨hx, hb, hml, hown, hts⟩
  refine lv_iinc (v := (y2_9 + 1)) (lv' := [(2, .int (y2_9 + 1)), (0, .ref (ad 0)), (1, .ref (ad (wo y1_9)))]) hx hb dX0_runs_90 hl (k := 2) rfl rfl (by decide) rfl (fun ls hl => ?_)
  refine lv_goto (tgt := 7) hx hb dX0_runs_93 (by decide) ?_
  exact hKh7_2 _ _ _ _ _ P (lv_sub hl [1, 2, 0] rfl) hw
def wc_runs_L7 (Kd : tK) (T : tT) (F : tF) (y1_2 : Nat) (Kx96_2 : tA → Prop) (Q : tF → tA → Prop) : Nat → tA → Int32 → Prop
  | 0, _, _ => False
  | f7 + 1, Ar, y2_2 =>
    (((F (wa y1_2)) ≤ y2_2 → (Kx96_2 Ar)) ∧ (¬ (F (wa y1_2)) ≤ y2_2 → vp_in y2_2 16 ∧ ∀ Ar_4 : tA, Ar_4 = aset Ar 13 y2_2.toNatClampNeg (-1) → vp_in y2_2 16 ∧ ∀ Ar_5 : tA, Ar_5 = aset Ar_4 12 y2_2.toNatClampNeg (-1) → vp_in y2_2 16 ∧ ((¬ (Ar_5 (wa y1_2) y2_2.toNatClampNeg) = 48 → vp_in y2_2 16 ∧ vp_in y2_2 16 ∧ vp_in y2_2 16 ∧ vp_in ((2 * (Ar_5 6 y2_2.toNatClampNeg)) + ((Ar_5 (wa y1_2) y2_2.toNatClampNeg) / 24)) 8 ∧ ∀ x3_7 : Int32, x3_7 = (((Ar_5 (wa y1_2) y2_2.toNatClampNeg) - (Ar_5 (wa y1_2) y2_2.toNatClampNeg) / 24 * 24) + (Ar_5 5 ((2 * (Ar_5 6 y2_2.toNatClampNeg)) + ((Ar_5 (wa y1_2) y2_2.toNatClampNeg) / 24)).toNatClampNeg)) → (((24 : Int32) ≤ x3_7 → (wc_runs_J90 Kd T F Ar_5 y1_2 y2_2 (wc_runs_L7 Kd T F y1_2 Kx96_2 Q f7) Q)) ∧ (¬ (24 : Int32) ≤ x3_7 → vp_in y2_2 16 ∧ ∀ Ar_10 : tA, Ar_10 = aset Ar_5 12 y2_2.toNatClampNeg x3_7 → (wc_runs_J90 Kd T F Ar_10 y1_2 y2_2 (wc_runs_L7 Kd T F y1_2 Kx96_2 Q f7) Q)))) ∧ ((Ar_5 (wa y1_2) y2_2.toNatClampNeg) = 48 → (wc_runs_J90 Kd T F Ar_5 y1_2 y2_2 (wc_runs_L7 Kd T F y1_2 Kx96_2 Q f7) Q)))))
set_option maxHeartbeats 4000000 in
theorem kwc_runs_L7 {Q : tF → tA → Prop} (X : cCx p s m args meth c cX0_runs 6 RX0 D G) (hr : meth.sig.returnType = none) (Kd : tK) (T : tT) (F : tF) (y1_2 : Nat) (Kx96_2 : tA → Prop) (hky1_2 : Kd y1_2 ≠ none) (hKx96_2 : ∀ (Ar_ : tA) (H : Heap) (locs : List Loc) (ls : Array Slot), cP D (cReg G ad Kd U zz s.heap.size) G ad s.heap Kd U T zz F Ar_ H locs → lv_has ls 6 [(0, .ref (ad 0)), (1, .ref (ad (wo y1_2)))] → Kx96_2 Ar_ → W p l e ({ frames := 4, cells := 0, slots := 0, locals := 93 }) s m args below meth c H locs 0 0 (MQ below (cQv D G ad Kd U T zz s.heap.size Q) args s 0 0 (cReg G ad Kd U zz s.heap.size)) (F0 m 96 ls [])) : ∀ (n : Nat) (Ar : tA) (y2_2 : Int32) (H : Heap) (locs : List Loc) (ls : Array Slot), cP D (cReg G ad Kd U zz s.heap.size) G ad s.heap Kd U T zz F Ar H locs → lv_has ls 6 [(0, .ref (ad 0)), (1, .ref (ad (wo y1_2))), (2, .int y2_2)] → wc_runs_L7 Kd T F y1_2 Kx96_2 Q n Ar y2_2 → W p l e ({ frames := 4, cells := 0, slots := 0, locals := 93 }) s m args below meth c H locs 0 0 (MQ below (cQv D G ad Kd U T zz s.heap.size Q) args s 0 0 (cReg G ad Kd U zz s.heap.size)) (F0 m 7 ls []) := by
  obtain ⟨hx, hb, hml, hown, hts, -, hlk, -⟩ := id X
  have S : CallFix p m c _ _ s args lw_all RX0 := ⟨hx, hb, hml, hown, hts⟩
  intro n
  induction n with
  | zero =>
    intro Ar y2_2 H locs ls P hl hw
    exact hw.elim
  | succ n ih =>
    intro Ar y2_2 H locs ls P hl hw
    have hKh7_2 := ih
    refine lv_iload_n hx hb dX0_runs_7 rfl (lv_at hl 2 rfl) ?_
    refine lv_aload_n hx hb dX0_runs_8 rfl (lv_at hl 1 rfl) ?_
    refine c_wg_carts X P hky1_2 dX0_runs_9 ?_
    refine lv_icmp_ge (tgt := 96) hx hb dX0_runs_12 (by decide) (fun c_3 => ?_) (fun c_3 => ?_)
    · replace hw := hw.1 c_3
      exact hKx96_2 _ _ _ _ P (lv_sub hl [0, 1] rfl) hw
    · replace hw := hw.2 c_3
      refine lv_aload_n hx hb dX0_runs_15 rfl (lv_at hl 0 rfl) ?_
      refine cg_passed X P dX0_runs_16 ?_
      refine lv_iload_n hx hb dX0_runs_19 rfl (lv_at hl 2 rfl) ?_
      refine lv_iconst (v := (-1)) hx hb dX0_runs_20 (by decide) ?_
      refine c_iast X P (rfl : cArr Kd 13 = some (0, 16)) hw.1 dX0_runs_21 (fun Ar_4 H locs eAr_4 P _ => ?_)
      replace hw := hw.2
      replace hw := hw Ar_4 eAr_4
      refine lv_aload_n hx hb dX0_runs_22 rfl (lv_at hl 0 rfl) ?_
      refine cg_came X P dX0_runs_23 ?_
      refine lv_iload_n hx hb dX0_runs_26 rfl (lv_at hl 2 rfl) ?_
      refine lv_iconst (v := (-1)) hx hb dX0_runs_27 (by decide) ?_
      refine c_iast X P (rfl : cArr Kd 12 = some (0, 16)) hw.1 dX0_runs_28 (fun Ar_5 H locs eAr_5 P _ => ?_)
      replace hw := hw.2
      replace hw := hw Ar_5 eAr_5
      refine lv_aload_n hx hb dX0_runs_29 rfl (lv_at hl 1 rfl) ?_
      refine c_wg_choice X P hky1_2 dX0_runs_30 ?_
      refine lv_iload_n hx hb dX0_runs_33 rfl (lv_at hl 2 rfl) ?_
      refine c_bald X P (c_warr P hky1_2) hw.1 dX0_runs_34 ?_
      replace hw := hw.2
      refine lv_bipush (v := 48) hx hb dX0_runs_35 (by decide) ?_
      refine lv_icmp_ne (tgt := 43) hx hb dX0_runs_37 (by decide) (fun c_6 => ?_) (fun c_6 => ?_)
      · replace hw := hw.1 c_6
        refine lv_aload_n hx hb dX0_runs_43 rfl (lv_at hl 1 rfl) ?_
        refine c_wg_choice X P hky1_2 dX0_runs_44 ?_
        refine lv_iload_n hx hb dX0_runs_47 rfl (lv_at hl 2 rfl) ?_
        refine c_bald X P (c_warr P hky1_2) hw.1 dX0_runs_48 ?_
        replace hw := hw.2
        refine lv_bipush (v := 24) hx hb dX0_runs_49 (by decide) ?_
        refine lv_irem hx hb dX0_runs_51 (by decide) ?_
        refine lv_aload_n hx hb dX0_runs_52 rfl (lv_at hl 0 rfl) ?_
        refine cg_road X P dX0_runs_53 ?_
        refine lv_iconst (v := 2) hx hb dX0_runs_56 (by decide) ?_
        refine lv_aload_n hx hb dX0_runs_57 rfl (lv_at hl 0 rfl) ?_
        refine cg_sortOf X P dX0_runs_58 ?_
        refine lv_iload_n hx hb dX0_runs_61 rfl (lv_at hl 2 rfl) ?_
        refine c_iald X P (rfl : cArr Kd 6 = some (0, 16)) hw.1 dX0_runs_62 ?_
        replace hw := hw.2
        refine lv_imul hx hb dX0_runs_63 ?_
        refine lv_aload_n hx hb dX0_runs_64 rfl (lv_at hl 1 rfl) ?_
        refine c_wg_choice X P hky1_2 dX0_runs_65 ?_
        refine lv_iload_n hx hb dX0_runs_68 rfl (lv_at hl 2 rfl) ?_
        refine c_bald X P (c_warr P hky1_2) hw.1 dX0_runs_69 ?_
        replace hw := hw.2
        refine lv_bipush (v := 24) hx hb dX0_runs_70 (by decide) ?_
        refine lv_idiv hx hb dX0_runs_72 (by decide) ?_
        refine lv_iadd hx hb dX0_runs_73 ?_
        refine c_iald X P (rfl : cArr Kd 5 = some (0, 8)) hw.1 dX0_runs_74 ?_
        replace hw := hw.2
        refine lv_iadd hx hb dX0_runs_75 ?_
        refine lv_topi (fun x3_7 ex3_7 => ?_)
        replace hw := hw x3_7 ex3_7
        refine lv_istore_n (lv' := [(3, .int x3_7), (0, .ref (ad 0)), (1, .ref (ad (wo y1_2))), (2, .int y2_2)]) hx hb dX0_runs_76 rfl hl (by decide) rfl (fun ls hl => ?_)
        refine lv_iload_n hx hb dX0_runs_77 rfl (lv_at hl 0 rfl) ?_
        refine lv_bipush (v := 24) hx hb dX0_runs_78 (by decide) ?_
        refine lv_icmp_ge (tgt := 90) hx hb dX0_runs_80 (by decide) (fun c_8 => ?_) (fun c_8 => ?_)
        · replace hw := hw.1 c_8
          exact kwc_runs_J90 X hr _ _ _ hky1_2 P (lv_sub hl [1, 2, 3] rfl) hw hKh7_2
        · replace hw := hw.2 c_8
          refine lv_aload_n hx hb dX0_runs_83 rfl (lv_at hl 1 rfl) ?_
          refine cg_came X P dX0_runs_84 ?_
          refine lv_iload_n hx hb dX0_runs_87 rfl (lv_at hl 3 rfl) ?_
          refine lv_iload_n hx hb dX0_runs_88 rfl (lv_at hl 0 rfl) ?_
          refine c_iast X P (rfl : cArr Kd 12 = some (0, 16)) hw.1 dX0_runs_89 (fun Ar_10 H locs eAr_10 P _ => ?_)
          replace hw := hw.2
          replace hw := hw Ar_10 eAr_10
          exact kwc_runs_J90 X hr _ _ _ hky1_2 P (lv_sub hl [1, 2, 3] rfl) hw hKh7_2
      · replace hw := hw.2 c_6
        refine lv_goto (tgt := 90) hx hb dX0_runs_40 (by decide) ?_
        exact kwc_runs_J90 X hr _ _ _ hky1_2 P (lv_sub hl [0, 1, 2] rfl) hw hKh7_2
def wc_runs_L114 (Kd : tK) (T : tT) (y1_16 : Nat) (y2_16 : Int32) (y3_16 : Int32) (Kx145_16 : tF → tA → Prop) (Kx183_16 : tF → tA → Prop) (Q : tF → tA → Prop) : Nat → tF → tA → Int32 → Prop
  | 0, _, _, _ => False
  | f114 + 1, F, Ar, y4_16 =>
    vp_in ((24 * y3_16) + y2_16) 48 ∧ (((Ar 1 ((24 * y3_16) + y2_16).toNatClampNeg) ≤ y4_16 → (Kx183_16 F Ar)) ∧ (¬ (Ar 1 ((24 * y3_16) + y2_16).toNatClampNeg) ≤ y4_16 → wc_first Kd T F Ar y1_16 y3_16 y2_16 (fun r_18 => ((¬ r_18 = (-1) → vp_in r_18 16 ∧ ∀ Ar_20 : tA, Ar_20 = aset Ar 13 r_18.toNatClampNeg y2_16 → vp_in (F 15) 16 ∧ ∀ Ar_21 : tA, Ar_21 = aset Ar_20 15 (F 15).toNatClampNeg r_18 → ∀ F_22 : tF, F_22 = upd F 15 ((F 15) + 1) → ((wc_runs_L114 Kd T y1_16 y2_16 y3_16 Kx145_16 Kx183_16 Q f114) F_22 Ar_21 (y4_16 + 1))) ∧ (r_18 = (-1) → (Kx145_16 F Ar))))))
set_option maxHeartbeats 4000000 in
theorem kwc_runs_L114 {Q : tF → tA → Prop} (X : cCx p s m args meth c cX0_runs 6 RX0 D G) (hr : meth.sig.returnType = none) (Kd : tK) (T : tT) (y1_16 : Nat) (y2_16 : Int32) (y3_16 : Int32) (Kx145_16 : tF → tA → Prop) (Kx183_16 : tF → tA → Prop) (hky1_16 : Kd y1_16 ≠ none) (hKx145_16 : ∀ (F_ : tF) (Ar_ : tA) (H : Heap) (locs : List Loc) (ls : Array Slot), cP D (cReg G ad Kd U zz s.heap.size) G ad s.heap Kd U T zz F_ Ar_ H locs → lv_has ls 6 [(0, .ref (ad 0)), (1, .ref (ad (wo y1_16))), (2, .int y2_16), (3, .int y3_16)] → Kx145_16 F_ Ar_ → W p l e ({ frames := 4, cells := 0, slots := 0, locals := 93 }) s m args below meth c H locs 0 0 (MQ below (cQv D G ad Kd U T zz s.heap.size Q) args s 0 0 (cReg G ad Kd U zz s.heap.size)) (F0 m 145 ls [])) (hKx183_16 : ∀ (F_ : tF) (Ar_ : tA) (H : Heap) (locs : List Loc) (ls : Array Slot), cP D (cReg G ad Kd U zz s.heap.size) G ad s.heap Kd U T zz F_ Ar_ H locs → lv_has ls 6 [(0, .ref (ad 0)), (1, .ref (ad (wo y1_16))), (2, .int y2_16), (3, .int y3_16)] → Kx183_16 F_ Ar_ → W p l e ({ frames := 4, cells := 0, slots := 0, locals := 93 }) s m args below meth c H locs 0 0 (MQ below (cQv D G ad Kd U T zz s.heap.size Q) args s 0 0 (cReg G ad Kd U zz s.heap.size)) (F0 m 183 ls [])) : ∀ (n : Nat) (F : tF) (Ar : tA) (y4_16 : Int32) (H : Heap) (locs : List Loc) (ls : Array Slot), cP D (cReg G ad Kd U zz s.heap.size) G ad s.heap Kd U T zz F Ar H locs → lv_has ls 6 [(0, .ref (ad 0)), (1, .ref (ad (wo y1_16))), (2, .int y2_16), (3, .int y3_16), (4, .int y4_16)] → wc_runs_L114 Kd T y1_16 y2_16 y3_16 Kx145_16 Kx183_16 Q n F Ar y4_16 → W p l e ({ frames := 4, cells := 0, slots := 0, locals := 93 }) s m args below meth c H locs 0 0 (MQ below (cQv D G ad Kd U T zz s.heap.size Q) args s 0 0 (cReg G ad Kd U zz s.heap.size)) (F0 m 114 ls []) := by
  obtain ⟨hx, hb, hml, hown, hts, -, hlk, -⟩ := id X
  have S : CallFix p m c _ _ s args lw_all RX0 := ⟨hx, hb, hml, hown, hts⟩
  intro n
  induction n with
  | zero =>
    intro F Ar y4_16 H locs ls P hl hw
    exact hw.elim
  | succ n ih =>
    intro F Ar y4_16 H locs ls P hl hw
    have hKh114_16 := ih
    refine lv_iload hx hb dX0_runs_114 (lv_at hl 4 rfl) ?_
    refine lv_aload_n hx hb dX0_runs_116 rfl (lv_at hl 0 rfl) ?_
    refine cg_rate X P dX0_runs_117 ?_
    refine lv_bipush (v := 24) hx hb dX0_runs_120 (by decide) ?_
    refine lv_iload_n hx hb dX0_runs_122 rfl (lv_at hl 3 rfl) ?_
    refine lv_imul hx hb dX0_runs_123 ?_
    refine lv_iload_n hx hb dX0_runs_124 rfl (lv_at hl 2 rfl) ?_
    refine lv_iadd hx hb dX0_runs_125 ?_
    refine c_iald X P (rfl : cArr Kd 1 = some (0, 48)) hw.1 dX0_runs_126 ?_
    replace hw := hw.2
    refine lv_icmp_ge (tgt := 183) hx hb dX0_runs_127 (by decide) (fun c_17 => ?_) (fun c_17 => ?_)
    · replace hw := hw.1 c_17
      exact hKx183_16 _ _ _ _ _ P (lv_sub hl [0, 1, 2, 3] rfl) hw
    · replace hw := hw.2 c_17
      refine lv_aload_n hx hb dX0_runs_130 rfl (lv_at hl 0 rfl) ?_
      refine lv_aload_n hx hb dX0_runs_131 rfl (lv_at hl 1 rfl) ?_
      refine lv_iload_n hx hb dX0_runs_132 rfl (lv_at hl 3 rfl) ?_
      refine lv_iload_n hx hb dX0_runs_133 rfl (lv_at hl 2 rfl) ?_
      refine cwc_first X P (fun _ h => Or.inr h) hw ⟨Nat.le_of_ble_eq_true rfl, Nat.le_of_ble_eq_true rfl⟩ ⟨Nat.zero_le _, Nat.zero_le _⟩ hl.1 (Nat.le_of_ble_eq_true rfl) dX0_runs_134 (fun r_18 hw => ?_)
      refine lv_istore (lv' := [(5, .int r_18), (0, .ref (ad 0)), (1, .ref (ad (wo y1_16))), (2, .int y2_16), (3, .int y3_16), (4, .int y4_16)]) hx hb dX0_runs_137 hl (by decide) rfl (fun ls hl => ?_)
      refine lv_iload hx hb dX0_runs_139 (lv_at hl 0 rfl) ?_
      refine lv_iconst (v := (-1)) hx hb dX0_runs_141 (by decide) ?_
      refine lv_icmp_ne (tgt := 148) hx hb dX0_runs_142 (by decide) (fun c_19 => ?_) (fun c_19 => ?_)
      · replace hw := hw.1 c_19
        refine lv_aload_n hx hb dX0_runs_148 rfl (lv_at hl 1 rfl) ?_
        refine cg_passed X P dX0_runs_149 ?_
        refine lv_iload hx hb dX0_runs_152 (lv_at hl 0 rfl) ?_
        refine lv_iload_n hx hb dX0_runs_154 rfl (lv_at hl 3 rfl) ?_
        refine c_iast X P (rfl : cArr Kd 13 = some (0, 16)) hw.1 dX0_runs_155 (fun Ar_20 H locs eAr_20 P _ => ?_)
        replace hw := hw.2
        replace hw := hw Ar_20 eAr_20
        refine lv_aload_n hx hb dX0_runs_156 rfl (lv_at hl 1 rfl) ?_
        refine cg_passing X P dX0_runs_157 ?_
        refine lv_aload_n hx hb dX0_runs_160 rfl (lv_at hl 1 rfl) ?_
        refine cg_passings X P dX0_runs_161 ?_
        refine lv_iload hx hb dX0_runs_164 (lv_at hl 0 rfl) ?_
        refine c_iast X P (rfl : cArr Kd 15 = some (0, 16)) hw.1 dX0_runs_166 (fun Ar_21 H locs eAr_21 P _ => ?_)
        replace hw := hw.2
        replace hw := hw Ar_21 eAr_21
        refine lv_aload_n hx hb dX0_runs_167 rfl (lv_at hl 1 rfl) ?_
        refine lv_dup hx hb dX0_runs_168 rfl ?_
        refine cg_passings X P dX0_runs_169 ?_
        refine lv_iconst (v := 1) hx hb dX0_runs_172 (by decide) ?_
        refine lv_iadd hx hb dX0_runs_173 ?_
        refine cp_passings X P dX0_runs_174 (fun F_22 H locs eF_22 P _ => ?_)
        replace hw := hw F_22 eF_22
        refine lv_iinc (v := (y4_16 + 1)) (lv' := [(4, .int (y4_16 + 1)), (5, .int r_18), (0, .ref (ad 0)), (1, .ref (ad (wo y1_16))), (2, .int y2_16), (3, .int y3_16)]) hx hb dX0_runs_177 hl (k := 5) rfl rfl (by decide) rfl (fun ls hl => ?_)
        refine lv_goto (tgt := 114) hx hb dX0_runs_180 (by decide) ?_
        exact hKh114_16 _ _ _ _ _ _ P (lv_sub hl [2, 3, 4, 5, 0] rfl) hw
      · replace hw := hw.2 c_19
        exact hKx145_16 _ _ _ _ _ P (lv_sub hl [1, 2, 3, 4] rfl) hw
def wc_runs_J183 (Kd : tK) (T : tT) (F : tF) (Ar : tA) (y1_25 : Nat) (y2_25 : Int32) (y3_25 : Int32) (Kh106_14 : tF → tA → Int32 → Prop) (Q : tF → tA → Prop) : Prop :=
  wc_waiting Kd T F Ar y1_25 y3_25 y2_25 (fun r_26 => vp_in ((24 * y3_25) + y2_25) 48 ∧ ∀ Ar_27 : tA, Ar_27 = aset Ar 14 ((24 * y3_25) + y2_25).toNatClampNeg r_26 → (Kh106_14 F Ar_27 (y3_25 + 1)))
set_option maxHeartbeats 4000000 in
theorem kwc_runs_J183 {Q : tF → tA → Prop} (X : cCx p s m args meth c cX0_runs 6 RX0 D G) (hr : meth.sig.returnType = none) {F : tF} {Ar : tA} (y1_25 : Nat) (y2_25 : Int32) (y3_25 : Int32) (Kh106_14 : tF → tA → Int32 → Prop) (hky1_25 : Kd y1_25 ≠ none) {H : Heap} {locs : List Loc} {ls : Array Slot} (P : cP D (cReg G ad Kd U zz s.heap.size) G ad s.heap Kd U T zz F Ar H locs) (hl : lv_has ls 6 [(0, .ref (ad 0)), (1, .ref (ad (wo y1_25))), (2, .int y2_25), (3, .int y3_25)]) (hw : wc_runs_J183 Kd T F Ar y1_25 y2_25 y3_25 Kh106_14 Q) (hKh106_14 : ∀ (F_ : tF) (Ar_ : tA) (w3_ : Int32) (H : Heap) (locs : List Loc) (ls : Array Slot), cP D (cReg G ad Kd U zz s.heap.size) G ad s.heap Kd U T zz F_ Ar_ H locs → lv_has ls 6 [(0, .ref (ad 0)), (1, .ref (ad (wo y1_25))), (2, .int y2_25), (3, .int w3_)] → Kh106_14 F_ Ar_ w3_ → W p l e ({ frames := 4, cells := 0, slots := 0, locals := 93 }) s m args below meth c H locs 0 0 (MQ below (cQv D G ad Kd U T zz s.heap.size Q) args s 0 0 (cReg G ad Kd U zz s.heap.size)) (F0 m 106 ls [])) : W p l e ({ frames := 4, cells := 0, slots := 0, locals := 93 }) s m args below meth c H locs 0 0 (MQ below (cQv D G ad Kd U T zz s.heap.size Q) args s 0 0 (cReg G ad Kd U zz s.heap.size)) (F0 m 183 ls []) := by
  obtain ⟨hx, hb, hml, hown, hts, -, hlk, -⟩ := id X
  have S : CallFix p m c _ _ s args lw_all RX0 := ⟨hx, hb, hml, hown, hts⟩
  refine lv_aload_n hx hb dX0_runs_183 rfl (lv_at hl 0 rfl) ?_
  refine cg_line X P dX0_runs_184 ?_
  refine lv_bipush (v := 24) hx hb dX0_runs_187 (by decide) ?_
  refine lv_iload_n hx hb dX0_runs_189 rfl (lv_at hl 3 rfl) ?_
  refine lv_imul hx hb dX0_runs_190 ?_
  refine lv_iload_n hx hb dX0_runs_191 rfl (lv_at hl 2 rfl) ?_
  refine lv_iadd hx hb dX0_runs_192 ?_
  refine lv_aload_n hx hb dX0_runs_193 rfl (lv_at hl 0 rfl) ?_
  refine lv_aload_n hx hb dX0_runs_194 rfl (lv_at hl 1 rfl) ?_
  refine lv_iload_n hx hb dX0_runs_195 rfl (lv_at hl 3 rfl) ?_
  refine lv_iload_n hx hb dX0_runs_196 rfl (lv_at hl 2 rfl) ?_
  refine cwc_waiting X P (fun _ h => Or.inr h) hw ⟨Nat.le_of_ble_eq_true rfl, Nat.le_of_ble_eq_true rfl⟩ ⟨Nat.zero_le _, Nat.zero_le _⟩ hl.1 (Nat.le_of_ble_eq_true rfl) dX0_runs_197 (fun r_26 hw => ?_)
  refine c_iast X P (rfl : cArr Kd 14 = some (0, 48)) hw.1 dX0_runs_200 (fun Ar_27 H locs eAr_27 P _ => ?_)
  replace hw := hw.2
  replace hw := hw Ar_27 eAr_27
  refine lv_iinc (v := (y3_25 + 1)) (lv' := [(3, .int (y3_25 + 1)), (0, .ref (ad 0)), (1, .ref (ad (wo y1_25))), (2, .int y2_25)]) hx hb dX0_runs_201 hl (k := 3) rfl rfl (by decide) rfl (fun ls hl => ?_)
  refine lv_goto (tgt := 106) hx hb dX0_runs_204 (by decide) ?_
  exact hKh106_14 _ _ _ _ _ _ P (lv_sub hl [1, 2, 3, 0] rfl) hw
def wc_runs_L106 (Kd : tK) (T : tT) (y1_14 : Nat) (y2_14 : Int32) (Kx207_14 : tF → tA → Prop) (Q : tF → tA → Prop) : Nat → tF → tA → Int32 → Prop
  | 0, _, _, _ => False
  | f106 + 1, F, Ar, y3_14 =>
    (((2 : Int32) ≤ y3_14 → (Kx207_14 F Ar)) ∧ (¬ (2 : Int32) ≤ y3_14 → (∃ n114, wc_runs_L114 Kd T y1_14 y2_14 y3_14 (fun (F_23 : tF) (Ar_24 : tA) => (wc_runs_J183 Kd T F_23 Ar_24 y1_14 y2_14 y3_14 (wc_runs_L106 Kd T y1_14 y2_14 Kx207_14 Q f106) Q)) (fun (F_28 : tF) (Ar_29 : tA) => (wc_runs_J183 Kd T F_28 Ar_29 y1_14 y2_14 y3_14 (wc_runs_L106 Kd T y1_14 y2_14 Kx207_14 Q f106) Q)) Q n114 F Ar 0)))
set_option maxHeartbeats 4000000 in
theorem kwc_runs_L106 {Q : tF → tA → Prop} (X : cCx p s m args meth c cX0_runs 6 RX0 D G) (hr : meth.sig.returnType = none) (Kd : tK) (T : tT) (y1_14 : Nat) (y2_14 : Int32) (Kx207_14 : tF → tA → Prop) (hky1_14 : Kd y1_14 ≠ none) (hKx207_14 : ∀ (F_ : tF) (Ar_ : tA) (H : Heap) (locs : List Loc) (ls : Array Slot), cP D (cReg G ad Kd U zz s.heap.size) G ad s.heap Kd U T zz F_ Ar_ H locs → lv_has ls 6 [(0, .ref (ad 0)), (1, .ref (ad (wo y1_14))), (2, .int y2_14)] → Kx207_14 F_ Ar_ → W p l e ({ frames := 4, cells := 0, slots := 0, locals := 93 }) s m args below meth c H locs 0 0 (MQ below (cQv D G ad Kd U T zz s.heap.size Q) args s 0 0 (cReg G ad Kd U zz s.heap.size)) (F0 m 207 ls [])) : ∀ (n : Nat) (F : tF) (Ar : tA) (y3_14 : Int32) (H : Heap) (locs : List Loc) (ls : Array Slot), cP D (cReg G ad Kd U zz s.heap.size) G ad s.heap Kd U T zz F Ar H locs → lv_has ls 6 [(0, .ref (ad 0)), (1, .ref (ad (wo y1_14))), (2, .int y2_14), (3, .int y3_14)] → wc_runs_L106 Kd T y1_14 y2_14 Kx207_14 Q n F Ar y3_14 → W p l e ({ frames := 4, cells := 0, slots := 0, locals := 93 }) s m args below meth c H locs 0 0 (MQ below (cQv D G ad Kd U T zz s.heap.size Q) args s 0 0 (cReg G ad Kd U zz s.heap.size)) (F0 m 106 ls []) := by
  obtain ⟨hx, hb, hml, hown, hts, -, hlk, -⟩ := id X
  have S : CallFix p m c _ _ s args lw_all RX0 := ⟨hx, hb, hml, hown, hts⟩
  intro n
  induction n with
  | zero =>
    intro F Ar y3_14 H locs ls P hl hw
    exact hw.elim
  | succ n ih =>
    intro F Ar y3_14 H locs ls P hl hw
    have hKh106_14 := ih
    refine lv_iload_n hx hb dX0_runs_106 rfl (lv_at hl 3 rfl) ?_
    refine lv_iconst (v := 2) hx hb dX0_runs_107 (by decide) ?_
    refine lv_icmp_ge (tgt := 207) hx hb dX0_runs_108 (by decide) (fun c_15 => ?_) (fun c_15 => ?_)
    · replace hw := hw.1 c_15
      exact hKx207_14 _ _ _ _ _ P (lv_sub hl [0, 1, 2] rfl) hw
    · replace hw := hw.2 c_15
      refine lv_iconst (v := 0) hx hb dX0_runs_111 (by decide) ?_
      refine lv_istore (lv' := [(4, .int 0), (0, .ref (ad 0)), (1, .ref (ad (wo y1_14))), (2, .int y2_14), (3, .int y3_14)]) hx hb dX0_runs_112 hl (by decide) rfl (fun ls hl => ?_)
      obtain ⟨n_30, hw⟩ := hw
      refine kwc_runs_L114 X hr _ _ _ _ _ _ _   hky1_14 ?_ ?_ n_30 _ _ _ _ _ _ P (lv_sub hl [1, 2, 3, 4, 0] rfl) hw
      · intro F_23 Ar_24 H locs ls P hl hw
        refine lv_goto (tgt := 183) hx hb dX0_runs_145 (by decide) ?_
        exact kwc_runs_J183 X hr _ _ _ _ hky1_14 P (lv_sub hl [0, 1, 2, 3] rfl) hw hKh106_14
      · intro F_28 Ar_29 H locs ls P hl hw
        exact kwc_runs_J183 X hr _ _ _ _ hky1_14 P (lv_sub hl [0, 1, 2, 3] rfl) hw hKh106_14
def wc_runs_L98 (Kd : tK) (T : tT) (y1_12 : Nat) (Q : tF → tA → Prop) : Nat → tF → tA → Int32 → Prop
  | 0, _, _, _ => False
  | f98 + 1, F, Ar, y2_12 =>
    (((24 : Int32) ≤ y2_12 → Q F Ar) ∧ (¬ (24 : Int32) ≤ y2_12 → (∃ n106, wc_runs_L106 Kd T y1_12 y2_12 (fun (F_31 : tF) (Ar_32 : tA) => ((wc_runs_L98 Kd T y1_12 Q f98) F_31 Ar_32 (y2_12 + 1))) Q n106 F Ar 0)))
set_option maxHeartbeats 4000000 in
theorem kwc_runs_L98 {Q : tF → tA → Prop} (X : cCx p s m args meth c cX0_runs 6 RX0 D G) (hr : meth.sig.returnType = none) (Kd : tK) (T : tT) (y1_12 : Nat) (hky1_12 : Kd y1_12 ≠ none) : ∀ (n : Nat) (F : tF) (Ar : tA) (y2_12 : Int32) (H : Heap) (locs : List Loc) (ls : Array Slot), cP D (cReg G ad Kd U zz s.heap.size) G ad s.heap Kd U T zz F Ar H locs → lv_has ls 6 [(0, .ref (ad 0)), (1, .ref (ad (wo y1_12))), (2, .int y2_12)] → wc_runs_L98 Kd T y1_12 Q n F Ar y2_12 → W p l e ({ frames := 4, cells := 0, slots := 0, locals := 93 }) s m args below meth c H locs 0 0 (MQ below (cQv D G ad Kd U T zz s.heap.size Q) args s 0 0 (cReg G ad Kd U zz s.heap.size)) (F0 m 98 ls []) := by
  obtain ⟨hx, hb, hml, hown, hts, -, hlk, -⟩ := id X
  have S : CallFix p m c _ _ s args lw_all RX0 := ⟨hx, hb, hml, hown, hts⟩
  intro n
  induction n with
  | zero =>
    intro F Ar y2_12 H locs ls P hl hw
    exact hw.elim
  | succ n ih =>
    intro F Ar y2_12 H locs ls P hl hw
    have hKh98_12 := ih
    refine lv_iload_n hx hb dX0_runs_98 rfl (lv_at hl 2 rfl) ?_
    refine lv_bipush (v := 24) hx hb dX0_runs_99 (by decide) ?_
    refine lv_icmp_ge (tgt := 213) hx hb dX0_runs_101 (by decide) (fun c_13 => ?_) (fun c_13 => ?_)
    · replace hw := hw.1 c_13
      exact c_vret X P hr hw dX0_runs_213
    · replace hw := hw.2 c_13
      refine lv_iconst (v := 0) hx hb dX0_runs_104 (by decide) ?_
      refine lv_istore_n (lv' := [(3, .int 0), (0, .ref (ad 0)), (1, .ref (ad (wo y1_12))), (2, .int y2_12)]) hx hb dX0_runs_105 rfl hl (by decide) rfl (fun ls hl => ?_)
      obtain ⟨n_33, hw⟩ := hw
      refine kwc_runs_L106 X hr _ _ _ _ _   hky1_12 ?_ n_33 _ _ _ _ _ _ P (lv_sub hl [1, 2, 3, 0] rfl) hw
      · intro F_31 Ar_32 H locs ls P hl hw
        refine lv_iinc (v := (y2_12 + 1)) (lv' := [(2, .int (y2_12 + 1)), (0, .ref (ad 0)), (1, .ref (ad (wo y1_12)))]) hx hb dX0_runs_207 hl (k := 2) rfl rfl (by decide) rfl (fun ls hl => ?_)
        refine lv_goto (tgt := 98) hx hb dX0_runs_210 (by decide) ?_
        exact hKh98_12 _ _ _ _ _ _ P (lv_sub hl [1, 2, 0] rfl) hw
def wc_runs (Kd : tK) (T : tT) (F : tF) (Ar : tA) (a1 : Nat) (Q : tF → tA → Prop) : Prop :=
  Kd a1 ≠ none ∧ ∀ F_1 : tF, F_1 = upd F 15 0 → (∃ n7, wc_runs_L7 Kd T F_1 a1 (fun (Ar_11 : tA) => (∃ n98, wc_runs_L98 Kd T a1 Q n98 F_1 Ar_11 0)) Q n7 Ar 0)
set_option maxHeartbeats 4000000 in
theorem twc_runs (l : Launch) (D : va_G) (G ad : Nat → Nat) (Kd : tK) (U : tU) (T : tT) (zz : Int32) (F : tF) (Ar : tA) (a1 : Nat) (sz : Nat) (Q : tF → tA → Prop) (hw : wc_runs Kd T F Ar a1 Q) : Met l yX0_runs (ws_ yX0_runs cX0_runs 6 none) ({ frames := 4, cells := 0, slots := 0, locals := 93 }) (va_Pc [.ref (ad 0), .ref (ad (wo a1))] (cPb D G ad Kd U T zz F Ar sz)) (cQv D G ad Kd U T zz sz Q) 0 0 (cReg G ad Kd U zz sz) := by
  refine c_entry (by decide) (Nat.le_of_ble_eq_true rfl) ?_
  intro p e s m args below meth c ls X hr hsz P hl
  subst hsz
  have X : cCx p s m args meth c cX0_runs 6 RX0 D G := X
  obtain ⟨hx, hb, hml, hown, hts, -, hlk, -⟩ := id X
  have S : CallFix p m c _ _ s _ lw_all RX0 := ⟨hx, hb, hml, hown, hts⟩
  have hl : lv_has ls 6 [(0, .ref (ad 0)), (1, .ref (ad (wo a1)))] := hl
  have hka1 := hw.1
  replace hw := hw.2
  refine lv_aload_n hx hb dX0_runs_0 rfl (lv_at hl 0 rfl) ?_
  refine lv_iconst (v := 0) hx hb dX0_runs_1 (by decide) ?_
  refine cp_passings X P dX0_runs_2 (fun F_1 H locs eF_1 P _ => ?_)
  replace hw := hw F_1 eF_1
  refine lv_iconst (v := 0) hx hb dX0_runs_5 (by decide) ?_
  refine lv_istore_n (lv' := [(2, .int 0), (0, .ref (ad 0)), (1, .ref (ad (wo a1)))]) hx hb dX0_runs_6 rfl hl (by decide) rfl (fun ls hl => ?_)
  obtain ⟨n_35, hw⟩ := hw
  refine kwc_runs_L7 X hr _ _ _ _ _   hka1 ?_ n_35 _ _ _ _ _ P (lv_sub hl [1, 2, 0] rfl) hw
  · intro Ar_11 H locs ls P hl hw
    refine lv_iconst (v := 0) hx hb dX0_runs_96 (by decide) ?_
    refine lv_istore_n (lv' := [(2, .int 0), (0, .ref (ad 0)), (1, .ref (ad (wo a1)))]) hx hb dX0_runs_97 rfl hl (by decide) rfl (fun ls hl => ?_)
    obtain ⟨n_34, hw⟩ := hw
    refine kwc_runs_L98 X hr _ _ _   hka1  n_34 _ _ _ _ _ _ P (lv_sub hl [1, 2, 0] rfl) hw
theorem cwc_runs {Q : tF → tA → Prop} {a1 : Nat} {Z : State → Prop} {A : Nat → Prop} {cells slots : Nat} {H : Heap} {locs : List Loc} {F : tF} {Ar : tA} (X : cCx p s m args meth c cc nL RX0 D G) (P : cP D A G ad s.heap Kd U T zz F Ar H locs) (hA : ∀ q, s.heap.size ≤ q → A q) (hw : wc_runs Kd T F Ar a1 Q) (hR : 4 + 1 ≤ R.frames ∧ 8 + (6 + 11) + 93 ≤ R.locals) (hC : cells ≤ R.cells ∧ slots ≤ R.slots) (hls : ls.size = nL) (hst : (rest.map fun v => v.category).sum ≤ 8) (hdg : decode cc pc = .ok (.invokevirtual 253, 3)) (kk : ∀ (F1 : tF) (A1 : tA) (H1 : Heap) (locs1 : List Loc), Q F1 A1 → cP D A G ad s.heap Kd U T zz F1 A1 H1 locs1 → W p l e R s m args below meth c H1 locs1 cells slots Z (F0 m (pc + 3) ls (rest))) : W p l e R s m args below meth c H locs cells slots Z (F0 m pc ls (.ref (ad (wo a1)) :: .ref (ad 0) :: rest)) := by
  obtain ⟨hx, hb, hml, hown, hts, hK, hlk, hN⟩ := id X
  exact va_callv (va_runV (C := RX0) (As := [.ref (ad (wo a1))]) (rest := rest) ⟨hx, hb, hml, hown, hts⟩ (twc_runs l D G ad Kd U T zz F Ar a1 H.size Q hw) (cwV 1 hts (lw_V q973 q975 qs18 q64 q976) rfl rfl rfl (by decide +kernel) hR) (c_prev X P) rfl rfl hls rfl (lv_room hst) hdg hC) P.2.2.1 (fun q _ h => P.regA hA q h) (fun q h => P.regA hA q h) (fun u t H1 locs1 ht hvm hp hB _ _ hS => kk u.1 u.2 H1 locs1 hp (c_afterA P ht hB hS))
-- of
def wc_of (Kd : tK) (T : tT) (F : tF) (Ar : tA) (a1 : Int32) (a2 : Int32) (a3 : Int32) (Q : Int32 → tF → tA → Prop) : Prop :=
  wc_isWay Kd T F Ar a1 (fun r_1 => ((r_1 = 0 → Q (-10000) F Ar) ∧ (¬ r_1 = 0 → (¬ a1 < 0 ∧ a1 < F 32) ∧ wc_in (a2.toInt64) 0 (((F (wa (a1.toNatClampNeg))).toInt64) - 1) (fun r_4 => ((¬ r_4 = 0 → (¬ a1 < 0 ∧ a1 < F 32) ∧ wc_runs Kd T F Ar (a1.toNatClampNeg) (fun F_8 Ar_9 => ((a3 = 0 → vp_in a2 16 ∧ Q (Ar_9 12 a2.toNatClampNeg) F_8 Ar_9) ∧ (¬ a3 = 0 → ((a3 = 1 → vp_in a2 16 ∧ Q (Ar_9 13 a2.toNatClampNeg) F_8 Ar_9) ∧ (¬ a3 = 1 → ((a3 = 2 → wc_cost Kd T F_8 Ar_9 (a1.toNatClampNeg) a2 (fun r_13 F_14 Ar_15 => Q r_13 F_14 Ar_15)) ∧ (¬ a3 = 2 → ((a3 = 3 → wc_paid Kd T F_8 Ar_9 (a1.toNatClampNeg) a2 (fun r_17 => Q r_17 F_8 Ar_9)) ∧ (¬ a3 = 3 → ((a3 = 4 → vp_in a2 16 ∧ ((¬ (Ar_9 13 a2.toNatClampNeg) = (-1) → wc_asks Kd T F_8 Ar_9 (a1.toNatClampNeg) a2 1 (fun r_20 F_21 Ar_22 => Q r_20 F_21 Ar_22)) ∧ ((Ar_9 13 a2.toNatClampNeg) = (-1) → Q 0 F_8 Ar_9))) ∧ (¬ a3 = 4 → Q (-10001) F_8 Ar_9)))))))))))) ∧ (r_4 = 0 → Q (-10000) F Ar))))))
set_option maxHeartbeats 4000000 in
theorem twc_of (l : Launch) (D : va_G) (G ad : Nat → Nat) (Kd : tK) (U : tU) (T : tT) (zz : Int32) (F : tF) (Ar : tA) (a1 : Int32) (a2 : Int32) (a3 : Int32) (sz : Nat) (Q : Int32 → tF → tA → Prop) (hw : wc_of Kd T F Ar a1 a2 a3 Q) : Met l yX0_of (ws_ yX0_of cX0_of 5 (some .int)) ({ frames := 203, cells := 0, slots := 0, locals := 4675 }) (va_Pc [.ref (ad 0), .int a1, .int a2, .int a3] (cPb D G ad Kd U T zz F Ar sz)) (cQi D G ad Kd U T zz sz Q) 0 0 (cReg G ad Kd U zz sz) := by
  refine c_entry (by decide) (Nat.le_of_ble_eq_true rfl) ?_
  intro p e s m args below meth c ls X hr hsz P hl
  subst hsz
  have X : cCx p s m args meth c cX0_of 5 RX0 D G := X
  obtain ⟨hx, hb, hml, hown, hts, -, hlk, -⟩ := id X
  have S : CallFix p m c _ _ s _ lw_all RX0 := ⟨hx, hb, hml, hown, hts⟩
  have hl : lv_has ls 5 [(0, .ref (ad 0)), (1, .int a1), (2, .int a2), (3, .int a3)] := hl
  refine lv_aload_n hx hb dX0_of_0 rfl (lv_at hl 0 rfl) ?_
  refine lv_iload_n hx hb dX0_of_1 rfl (lv_at hl 1 rfl) ?_
  refine cwc_isWay X P (fun _ h => Or.inr h) hw ⟨Nat.le_of_ble_eq_true rfl, Nat.le_of_ble_eq_true rfl⟩ ⟨Nat.zero_le _, Nat.zero_le _⟩ hl.1 (Nat.le_of_ble_eq_true rfl) dX0_of_2 (fun r_1 hw => ?_)
  refine lv_if_eq (tgt := 34) hx hb dX0_of_5 (by decide) (fun c_2 => ?_) (fun c_2 => ?_)
  · replace hw := hw.1 c_2
    refine lv_sipush (v := (-10000)) hx hb dX0_of_34 (by decide) ?_
    exact c_iret X P hr hw dX0_of_37
  · replace hw := hw.2 c_2
    refine lv_iload_n hx hb dX0_of_8 rfl (lv_at hl 2 rfl) ?_
    refine lv_i2l hx hb dX0_of_9 rfl ?_
    refine lv_lconst (v := 0) hx hb dX0_of_10 (by decide) ?_
    refine lv_aload_n hx hb dX0_of_11 rfl (lv_at hl 0 rfl) ?_
    refine cg_ways X P dX0_of_12 ?_
    refine lv_iload_n hx hb dX0_of_15 rfl (lv_at hl 1 rfl) ?_
    refine c_lget X P hw.1.1 hw.1.2 ⟨Nat.le_of_ble_eq_true rfl, Nat.le_of_ble_eq_true rfl⟩ hl.1 (Nat.le_of_ble_eq_true rfl) ⟨Nat.zero_le _, Nat.zero_le _⟩ dX0_of_16 (fun hk_3 => ?_)
    replace hw := hw.2
    refine c_castW X P hk_3 dX0_of_19 ?_
    refine c_wg_carts X P hk_3 dX0_of_22 ?_
    refine lv_i2l hx hb dX0_of_25 rfl ?_
    refine lv_lconst (v := 1) hx hb dX0_of_26 (by decide) ?_
    refine lv_lsub hx hb dX0_of_27 ?_
    refine cwc_in S hw ⟨Nat.le_of_ble_eq_true rfl, Nat.le_of_ble_eq_true rfl⟩ ⟨Nat.zero_le _, Nat.zero_le _⟩ hl.1 (Nat.le_of_ble_eq_true rfl) dX0_of_28 (fun r_4 hw => ?_)
    refine lv_if_ne (tgt := 38) hx hb dX0_of_31 (by decide) (fun c_5 => ?_) (fun c_5 => ?_)
    · replace hw := hw.1 c_5
      refine lv_aload_n hx hb dX0_of_38 rfl (lv_at hl 0 rfl) ?_
      refine cg_ways X P dX0_of_39 ?_
      refine lv_iload_n hx hb dX0_of_42 rfl (lv_at hl 1 rfl) ?_
      refine c_lget X P hw.1.1 hw.1.2 ⟨Nat.le_of_ble_eq_true rfl, Nat.le_of_ble_eq_true rfl⟩ hl.1 (Nat.le_of_ble_eq_true rfl) ⟨Nat.zero_le _, Nat.zero_le _⟩ dX0_of_43 (fun hk_6 => ?_)
      replace hw := hw.2
      refine c_castW X P hk_6 dX0_of_46 ?_
      refine lv_astore (lv' := [(4, .ref (ad (wo (a1.toNatClampNeg)))), (0, .ref (ad 0)), (1, .int a1), (2, .int a2), (3, .int a3)]) hx hb dX0_of_49 hl (by decide) rfl (fun ls hl => ?_)
      refine lv_aload_n hx hb dX0_of_51 rfl (lv_at hl 1 rfl) ?_
      refine lv_aload hx hb dX0_of_52 (lv_at hl 0 rfl) ?_
      refine cwc_runs X P (fun _ h => Or.inr h) hw ⟨Nat.le_of_ble_eq_true rfl, Nat.le_of_ble_eq_true rfl⟩ ⟨Nat.zero_le _, Nat.zero_le _⟩ hl.1 (Nat.le_of_ble_eq_true rfl) dX0_of_54 (fun F_8 Ar_9 H locs hw P => ?_)
      refine lv_iload_n hx hb dX0_of_57 rfl (lv_at hl 4 rfl) ?_
      by_cases c_10 : a3 = 0
      · replace hw := hw.1 c_10
        refine ts_in (off := 34) (tgt := 92) hx hb dX0_of_58 0 c_10 (by decide) (by decide) ?_
        refine lv_aload_n hx hb dX0_of_92 rfl (lv_at hl 1 rfl) ?_
        refine cg_came X P dX0_of_93 ?_
        refine lv_iload_n hx hb dX0_of_96 rfl (lv_at hl 3 rfl) ?_
        refine c_iald X P (rfl : cArr Kd 12 = some (0, 16)) hw.1 dX0_of_97 ?_
        replace hw := hw.2
        exact c_iret X P hr hw dX0_of_98
      · replace hw := hw.2 c_10
        by_cases c_11 : a3 = 1
        · replace hw := hw.1 c_11
          refine ts_in (off := 41) (tgt := 99) hx hb dX0_of_58 1 c_11 (by decide) (by decide) ?_
          refine lv_aload_n hx hb dX0_of_99 rfl (lv_at hl 1 rfl) ?_
          refine cg_passed X P dX0_of_100 ?_
          refine lv_iload_n hx hb dX0_of_103 rfl (lv_at hl 3 rfl) ?_
          refine c_iald X P (rfl : cArr Kd 13 = some (0, 16)) hw.1 dX0_of_104 ?_
          replace hw := hw.2
          exact c_iret X P hr hw dX0_of_105
        · replace hw := hw.2 c_11
          by_cases c_12 : a3 = 2
          · replace hw := hw.1 c_12
            refine ts_in (off := 48) (tgt := 106) hx hb dX0_of_58 2 c_12 (by decide) (by decide) ?_
            refine lv_aload_n hx hb dX0_of_106 rfl (lv_at hl 1 rfl) ?_
            refine lv_aload hx hb dX0_of_107 (lv_at hl 0 rfl) ?_
            refine lv_iload_n hx hb dX0_of_109 rfl (lv_at hl 3 rfl) ?_
            refine cwc_cost X P (fun _ h => Or.inr h) hw ⟨Nat.le_of_ble_eq_true rfl, Nat.le_of_ble_eq_true rfl⟩ ⟨Nat.zero_le _, Nat.zero_le _⟩ hl.1 (Nat.le_of_ble_eq_true rfl) dX0_of_110 (fun r_13 F_14 Ar_15 H locs hw P => ?_)
            exact c_iret X P hr hw dX0_of_113
          · replace hw := hw.2 c_12
            by_cases c_16 : a3 = 3
            · replace hw := hw.1 c_16
              refine ts_in (off := 56) (tgt := 114) hx hb dX0_of_58 3 c_16 (by decide) (by decide) ?_
              refine lv_aload_n hx hb dX0_of_114 rfl (lv_at hl 1 rfl) ?_
              refine lv_aload hx hb dX0_of_115 (lv_at hl 0 rfl) ?_
              refine lv_iload_n hx hb dX0_of_117 rfl (lv_at hl 3 rfl) ?_
              refine cwc_paid X P (fun _ h => Or.inr h) hw ⟨Nat.le_of_ble_eq_true rfl, Nat.le_of_ble_eq_true rfl⟩ ⟨Nat.zero_le _, Nat.zero_le _⟩ hl.1 (Nat.le_of_ble_eq_true rfl) dX0_of_118 (fun r_17 hw => ?_)
              exact c_iret X P hr hw dX0_of_121
            · replace hw := hw.2 c_16
              by_cases c_18 : a3 = 4
              · replace hw := hw.1 c_18
                refine ts_in (off := 64) (tgt := 122) hx hb dX0_of_58 4 c_18 (by decide) (by decide) ?_
                refine lv_aload_n hx hb dX0_of_122 rfl (lv_at hl 1 rfl) ?_
                refine cg_passed X P dX0_of_123 ?_
                refine lv_iload_n hx hb dX0_of_126 rfl (lv_at hl 3 rfl) ?_
                refine c_iald X P (rfl : cArr Kd 13 = some (0, 16)) hw.1 dX0_of_127 ?_
                replace hw := hw.2
                refine lv_iconst (v := (-1)) hx hb dX0_of_128 (by decide) ?_
                refine lv_icmp_ne (tgt := 136) hx hb dX0_of_129 (by decide) (fun c_19 => ?_) (fun c_19 => ?_)
                · replace hw := hw.1 c_19
                  refine lv_aload_n hx hb dX0_of_136 rfl (lv_at hl 1 rfl) ?_
                  refine lv_aload hx hb dX0_of_137 (lv_at hl 0 rfl) ?_
                  refine lv_iload_n hx hb dX0_of_139 rfl (lv_at hl 3 rfl) ?_
                  refine lv_iconst (v := 1) hx hb dX0_of_140 (by decide) ?_
                  refine cwc_asks X P (fun _ h => Or.inr h) hw ⟨Nat.le_of_ble_eq_true rfl, Nat.le_of_ble_eq_true rfl⟩ ⟨Nat.zero_le _, Nat.zero_le _⟩ hl.1 (Nat.le_of_ble_eq_true rfl) dX0_of_141 (fun r_20 F_21 Ar_22 H locs hw P => ?_)
                  exact c_iret X P hr hw dX0_of_144
                · replace hw := hw.2 c_19
                  refine lv_iconst (v := 0) hx hb dX0_of_132 (by decide) ?_
                  refine lv_goto (tgt := 144) hx hb dX0_of_133 (by decide) ?_
                  exact c_iret X P hr hw dX0_of_144
              · replace hw := hw.2 c_18
                refine lv_tableOut (tgt := 145) hx hb dX0_of_58 (by have z0 : a3.toInt ≠ 0 := i32_ne c_10; have z1 : a3.toInt ≠ 1 := i32_ne c_11; have z2 : a3.toInt ≠ 2 := i32_ne c_12; have z3 : a3.toInt ≠ 3 := i32_ne c_16; have z4 : a3.toInt ≠ 4 := i32_ne c_18; omega) (by decide) ?_
                refine lv_sipush (v := (-10001)) hx hb dX0_of_145 (by decide) ?_
                exact c_iret X P hr hw dX0_of_148
    · replace hw := hw.2 c_5
      refine lv_sipush (v := (-10000)) hx hb dX0_of_34 (by decide) ?_
      exact c_iret X P hr hw dX0_of_37
-- line
def wc_line (Kd : tK) (T : tT) (F : tF) (Ar : tA) (a1 : Int32) (a2 : Int32) (a3 : Int32) (Q : Int32 → tF → tA → Prop) : Prop :=
  wc_isWay Kd T F Ar a1 (fun r_1 => ((r_1 = 0 → Q (-5) F Ar) ∧ (¬ r_1 = 0 → wc_isGate a2 (fun r_3 => ((r_3 = 0 → Q (-5) F Ar) ∧ (¬ r_3 = 0 → wc_isMinute a3 (fun r_5 => ((¬ r_5 = 0 → (¬ a1 < 0 ∧ a1 < F 32) ∧ wc_runs Kd T F Ar (a1.toNatClampNeg) (fun F_9 Ar_10 => vp_in ((24 * a2) + a3) 48 ∧ Q (Ar_10 14 ((24 * a2) + a3).toNatClampNeg) F_9 Ar_10)) ∧ (r_5 = 0 → Q (-5) F Ar)))))))))
set_option maxHeartbeats 4000000 in
theorem twc_line (l : Launch) (D : va_G) (G ad : Nat → Nat) (Kd : tK) (U : tU) (T : tT) (zz : Int32) (F : tF) (Ar : tA) (a1 : Int32) (a2 : Int32) (a3 : Int32) (sz : Nat) (Q : Int32 → tF → tA → Prop) (hw : wc_line Kd T F Ar a1 a2 a3 Q) : Met l yX0_line (ws_ yX0_line cX0_line 4 (some .int)) ({ frames := 5, cells := 0, slots := 0, locals := 118 }) (va_Pc [.ref (ad 0), .int a1, .int a2, .int a3] (cPb D G ad Kd U T zz F Ar sz)) (cQi D G ad Kd U T zz sz Q) 0 0 (cReg G ad Kd U zz sz) := by
  refine c_entry (by decide) (Nat.le_of_ble_eq_true rfl) ?_
  intro p e s m args below meth c ls X hr hsz P hl
  subst hsz
  have X : cCx p s m args meth c cX0_line 4 RX0 D G := X
  obtain ⟨hx, hb, hml, hown, hts, -, hlk, -⟩ := id X
  have S : CallFix p m c _ _ s _ lw_all RX0 := ⟨hx, hb, hml, hown, hts⟩
  have hl : lv_has ls 4 [(0, .ref (ad 0)), (1, .int a1), (2, .int a2), (3, .int a3)] := hl
  refine lv_aload_n hx hb dX0_line_0 rfl (lv_at hl 0 rfl) ?_
  refine lv_iload_n hx hb dX0_line_1 rfl (lv_at hl 1 rfl) ?_
  refine cwc_isWay X P (fun _ h => Or.inr h) hw ⟨Nat.le_of_ble_eq_true rfl, Nat.le_of_ble_eq_true rfl⟩ ⟨Nat.zero_le _, Nat.zero_le _⟩ hl.1 (Nat.le_of_ble_eq_true rfl) dX0_line_2 (fun r_1 hw => ?_)
  refine lv_if_eq (tgt := 22) hx hb dX0_line_5 (by decide) (fun c_2 => ?_) (fun c_2 => ?_)
  · replace hw := hw.1 c_2
    refine lv_bipush (v := (-5)) hx hb dX0_line_22 (by decide) ?_
    exact c_iret X P hr hw dX0_line_24
  · replace hw := hw.2 c_2
    refine lv_iload_n hx hb dX0_line_8 rfl (lv_at hl 2 rfl) ?_
    refine cwc_isGate S hw ⟨Nat.le_of_ble_eq_true rfl, Nat.le_of_ble_eq_true rfl⟩ ⟨Nat.zero_le _, Nat.zero_le _⟩ hl.1 (Nat.le_of_ble_eq_true rfl) dX0_line_9 (fun r_3 hw => ?_)
    refine lv_if_eq (tgt := 22) hx hb dX0_line_12 (by decide) (fun c_4 => ?_) (fun c_4 => ?_)
    · replace hw := hw.1 c_4
      refine lv_bipush (v := (-5)) hx hb dX0_line_22 (by decide) ?_
      exact c_iret X P hr hw dX0_line_24
    · replace hw := hw.2 c_4
      refine lv_iload_n hx hb dX0_line_15 rfl (lv_at hl 3 rfl) ?_
      refine cwc_isMinute S hw ⟨Nat.le_of_ble_eq_true rfl, Nat.le_of_ble_eq_true rfl⟩ ⟨Nat.zero_le _, Nat.zero_le _⟩ hl.1 (Nat.le_of_ble_eq_true rfl) dX0_line_16 (fun r_5 hw => ?_)
      refine lv_if_ne (tgt := 25) hx hb dX0_line_19 (by decide) (fun c_6 => ?_) (fun c_6 => ?_)
      · replace hw := hw.1 c_6
        refine lv_aload_n hx hb dX0_line_25 rfl (lv_at hl 0 rfl) ?_
        refine lv_aload_n hx hb dX0_line_26 rfl (lv_at hl 0 rfl) ?_
        refine cg_ways X P dX0_line_27 ?_
        refine lv_iload_n hx hb dX0_line_30 rfl (lv_at hl 1 rfl) ?_
        refine c_lget X P hw.1.1 hw.1.2 ⟨Nat.le_of_ble_eq_true rfl, Nat.le_of_ble_eq_true rfl⟩ hl.1 (Nat.le_of_ble_eq_true rfl) ⟨Nat.zero_le _, Nat.zero_le _⟩ dX0_line_31 (fun hk_7 => ?_)
        replace hw := hw.2
        refine c_castW X P hk_7 dX0_line_34 ?_
        refine cwc_runs X P (fun _ h => Or.inr h) hw ⟨Nat.le_of_ble_eq_true rfl, Nat.le_of_ble_eq_true rfl⟩ ⟨Nat.zero_le _, Nat.zero_le _⟩ hl.1 (Nat.le_of_ble_eq_true rfl) dX0_line_37 (fun F_9 Ar_10 H locs hw P => ?_)
        refine lv_aload_n hx hb dX0_line_40 rfl (lv_at hl 0 rfl) ?_
        refine cg_line X P dX0_line_41 ?_
        refine lv_bipush (v := 24) hx hb dX0_line_44 (by decide) ?_
        refine lv_iload_n hx hb dX0_line_46 rfl (lv_at hl 2 rfl) ?_
        refine lv_imul hx hb dX0_line_47 ?_
        refine lv_iload_n hx hb dX0_line_48 rfl (lv_at hl 3 rfl) ?_
        refine lv_iadd hx hb dX0_line_49 ?_
        refine c_iald X P (rfl : cArr Kd 14 = some (0, 48)) hw.1 dX0_line_50 ?_
        replace hw := hw.2
        exact c_iret X P hr hw dX0_line_51
      · replace hw := hw.2 c_6
        refine lv_bipush (v := (-5)) hx hb dX0_line_22 (by decide) ?_
        exact c_iret X P hr hw dX0_line_24
-- passes
def wc_passes (Kd : tK) (T : tT) (F : tF) (Ar : tA) (a1 : Int32) (a2 : Int32) (Q : Int32 → tF → tA → Prop) : Prop :=
  wc_isWay Kd T F Ar a1 (fun r_1 => ((¬ r_1 = 0 → (¬ a1 < 0 ∧ a1 < F 32) ∧ wc_runs Kd T F Ar (a1.toNatClampNeg) (fun F_5 Ar_6 => ((¬ a2 = (-1) → wc_in (a2.toInt64) 0 (((F_5 15).toInt64) - 1) (fun r_8 => ((r_8 = 0 → Q (-1) F_5 Ar_6) ∧ (¬ r_8 = 0 → vp_in a2 16 ∧ Q (Ar_6 15 a2.toNatClampNeg) F_5 Ar_6)))) ∧ (a2 = (-1) → Q (F_5 15) F_5 Ar_6)))) ∧ (r_1 = 0 → Q (-5) F Ar)))
set_option maxHeartbeats 4000000 in
theorem twc_passes (l : Launch) (D : va_G) (G ad : Nat → Nat) (Kd : tK) (U : tU) (T : tT) (zz : Int32) (F : tF) (Ar : tA) (a1 : Int32) (a2 : Int32) (sz : Nat) (Q : Int32 → tF → tA → Prop) (hw : wc_passes Kd T F Ar a1 a2 Q) : Met l yX0_passes (ws_ yX0_passes cX0_passes 3 (some .int)) ({ frames := 5, cells := 0, slots := 0, locals := 118 }) (va_Pc [.ref (ad 0), .int a1, .int a2] (cPb D G ad Kd U T zz F Ar sz)) (cQi D G ad Kd U T zz sz Q) 0 0 (cReg G ad Kd U zz sz) := by
  refine c_entry (by decide) (Nat.le_of_ble_eq_true rfl) ?_
  intro p e s m args below meth c ls X hr hsz P hl
  subst hsz
  have X : cCx p s m args meth c cX0_passes 3 RX0 D G := X
  obtain ⟨hx, hb, hml, hown, hts, -, hlk, -⟩ := id X
  have S : CallFix p m c _ _ s _ lw_all RX0 := ⟨hx, hb, hml, hown, hts⟩
  have hl : lv_has ls 3 [(0, .ref (ad 0)), (1, .int a1), (2, .int a2)] := hl
  refine lv_aload_n hx hb dX0_passes_0 rfl (lv_at hl 0 rfl) ?_
  refine lv_iload_n hx hb dX0_passes_1 rfl (lv_at hl 1 rfl) ?_
  refine cwc_isWay X P (fun _ h => Or.inr h) hw ⟨Nat.le_of_ble_eq_true rfl, Nat.le_of_ble_eq_true rfl⟩ ⟨Nat.zero_le _, Nat.zero_le _⟩ hl.1 (Nat.le_of_ble_eq_true rfl) dX0_passes_2 (fun r_1 hw => ?_)
  refine lv_if_ne (tgt := 11) hx hb dX0_passes_5 (by decide) (fun c_2 => ?_) (fun c_2 => ?_)
  · replace hw := hw.1 c_2
    refine lv_aload_n hx hb dX0_passes_11 rfl (lv_at hl 0 rfl) ?_
    refine lv_aload_n hx hb dX0_passes_12 rfl (lv_at hl 0 rfl) ?_
    refine cg_ways X P dX0_passes_13 ?_
    refine lv_iload_n hx hb dX0_passes_16 rfl (lv_at hl 1 rfl) ?_
    refine c_lget X P hw.1.1 hw.1.2 ⟨Nat.le_of_ble_eq_true rfl, Nat.le_of_ble_eq_true rfl⟩ hl.1 (Nat.le_of_ble_eq_true rfl) ⟨Nat.zero_le _, Nat.zero_le _⟩ dX0_passes_17 (fun hk_3 => ?_)
    replace hw := hw.2
    refine c_castW X P hk_3 dX0_passes_20 ?_
    refine cwc_runs X P (fun _ h => Or.inr h) hw ⟨Nat.le_of_ble_eq_true rfl, Nat.le_of_ble_eq_true rfl⟩ ⟨Nat.zero_le _, Nat.zero_le _⟩ hl.1 (Nat.le_of_ble_eq_true rfl) dX0_passes_23 (fun F_5 Ar_6 H locs hw P => ?_)
    refine lv_iload_n hx hb dX0_passes_26 rfl (lv_at hl 2 rfl) ?_
    refine lv_iconst (v := (-1)) hx hb dX0_passes_27 (by decide) ?_
    refine lv_icmp_ne (tgt := 36) hx hb dX0_passes_28 (by decide) (fun c_7 => ?_) (fun c_7 => ?_)
    · replace hw := hw.1 c_7
      refine lv_iload_n hx hb dX0_passes_36 rfl (lv_at hl 2 rfl) ?_
      refine lv_i2l hx hb dX0_passes_37 rfl ?_
      refine lv_lconst (v := 0) hx hb dX0_passes_38 (by decide) ?_
      refine lv_aload_n hx hb dX0_passes_39 rfl (lv_at hl 0 rfl) ?_
      refine cg_passings X P dX0_passes_40 ?_
      refine lv_i2l hx hb dX0_passes_43 rfl ?_
      refine lv_lconst (v := 1) hx hb dX0_passes_44 (by decide) ?_
      refine lv_lsub hx hb dX0_passes_45 ?_
      refine cwc_in S hw ⟨Nat.le_of_ble_eq_true rfl, Nat.le_of_ble_eq_true rfl⟩ ⟨Nat.zero_le _, Nat.zero_le _⟩ hl.1 (Nat.le_of_ble_eq_true rfl) dX0_passes_46 (fun r_8 hw => ?_)
      refine lv_if_eq (tgt := 61) hx hb dX0_passes_49 (by decide) (fun c_9 => ?_) (fun c_9 => ?_)
      · replace hw := hw.1 c_9
        refine lv_iconst (v := (-1)) hx hb dX0_passes_61 (by decide) ?_
        exact c_iret X P hr hw dX0_passes_62
      · replace hw := hw.2 c_9
        refine lv_aload_n hx hb dX0_passes_52 rfl (lv_at hl 0 rfl) ?_
        refine cg_passing X P dX0_passes_53 ?_
        refine lv_iload_n hx hb dX0_passes_56 rfl (lv_at hl 2 rfl) ?_
        refine c_iald X P (rfl : cArr Kd 15 = some (0, 16)) hw.1 dX0_passes_57 ?_
        replace hw := hw.2
        refine lv_goto (tgt := 62) hx hb dX0_passes_58 (by decide) ?_
        exact c_iret X P hr hw dX0_passes_62
    · replace hw := hw.2 c_7
      refine lv_aload_n hx hb dX0_passes_31 rfl (lv_at hl 0 rfl) ?_
      refine cg_passings X P dX0_passes_32 ?_
      exact c_iret X P hr hw dX0_passes_35
  · replace hw := hw.2 c_2
    refine lv_bipush (v := (-5)) hx hb dX0_passes_8 (by decide) ?_
    exact c_iret X P hr hw dX0_passes_10
-- whole
def wc_whole_L5 (Kd : tK) (T : tT) (y1_1 : Nat) (Kx31_1 : tF → tA → Int64 → Prop) (Q : Int64 → tF → tA → Prop) : Nat → tF → tA → Int64 → Int32 → Prop
  | 0, _, _, _, _ => False
  | f5 + 1, F, Ar, y2_1, y4_1 =>
    (((F (wa y1_1)) ≤ y4_1 → (Kx31_1 F Ar y2_1)) ∧ (¬ (F (wa y1_1)) ≤ y4_1 → wc_cost Kd T F Ar y1_1 y4_1 (fun r_3 F_4 Ar_5 => ∀ x2_6 : Int64, x2_6 = (y2_1 + (r_3.toInt64)) → ((wc_whole_L5 Kd T y1_1 Kx31_1 Q f5) F_4 Ar_5 x2_6 (y4_1 + 1)))))
set_option maxHeartbeats 4000000 in
theorem kwc_whole_L5 {Q : Int64 → tF → tA → Prop} (X : cCx p s m args meth c cX0_whole 5 RX0 D G) (hr : meth.sig.returnType = (some .long)) (Kd : tK) (T : tT) (y1_1 : Nat) (Kx31_1 : tF → tA → Int64 → Prop) (hky1_1 : Kd y1_1 ≠ none) (hKx31_1 : ∀ (F_ : tF) (Ar_ : tA) (w2_ : Int64) (H : Heap) (locs : List Loc) (ls : Array Slot), cP D (cReg G ad Kd U zz s.heap.size) G ad s.heap Kd U T zz F_ Ar_ H locs → lv_has ls 5 [(0, .ref (ad 0)), (2, .long w2_)] → Kx31_1 F_ Ar_ w2_ → W p l e ({ frames := 203, cells := 0, slots := 0, locals := 4675 }) s m args below meth c H locs 0 0 (MQ below (cQl D G ad Kd U T zz s.heap.size Q) args s 0 0 (cReg G ad Kd U zz s.heap.size)) (F0 m 31 ls [])) : ∀ (n : Nat) (F : tF) (Ar : tA) (y2_1 : Int64) (y4_1 : Int32) (H : Heap) (locs : List Loc) (ls : Array Slot), cP D (cReg G ad Kd U zz s.heap.size) G ad s.heap Kd U T zz F Ar H locs → lv_has ls 5 [(0, .ref (ad 0)), (1, .ref (ad (wo y1_1))), (2, .long y2_1), (4, .int y4_1)] → wc_whole_L5 Kd T y1_1 Kx31_1 Q n F Ar y2_1 y4_1 → W p l e ({ frames := 203, cells := 0, slots := 0, locals := 4675 }) s m args below meth c H locs 0 0 (MQ below (cQl D G ad Kd U T zz s.heap.size Q) args s 0 0 (cReg G ad Kd U zz s.heap.size)) (F0 m 5 ls []) := by
  obtain ⟨hx, hb, hml, hown, hts, -, hlk, -⟩ := id X
  have S : CallFix p m c _ _ s args lw_all RX0 := ⟨hx, hb, hml, hown, hts⟩
  intro n
  induction n with
  | zero =>
    intro F Ar y2_1 y4_1 H locs ls P hl hw
    exact hw.elim
  | succ n ih =>
    intro F Ar y2_1 y4_1 H locs ls P hl hw
    have hKh5_1 := ih
    refine lv_iload hx hb dX0_whole_5 (lv_at hl 3 rfl) ?_
    refine lv_aload_n hx hb dX0_whole_7 rfl (lv_at hl 1 rfl) ?_
    refine c_wg_carts X P hky1_1 dX0_whole_8 ?_
    refine lv_icmp_ge (tgt := 31) hx hb dX0_whole_11 (by decide) (fun c_2 => ?_) (fun c_2 => ?_)
    · replace hw := hw.1 c_2
      exact hKx31_1 _ _ _ _ _ _ P (lv_sub hl [0, 2] rfl) hw
    · replace hw := hw.2 c_2
      refine lv_lload_n hx hb dX0_whole_14 rfl (lv_at hl 2 rfl) ?_
      refine lv_aload_n hx hb dX0_whole_15 rfl (lv_at hl 0 rfl) ?_
      refine lv_aload_n hx hb dX0_whole_16 rfl (lv_at hl 1 rfl) ?_
      refine lv_iload hx hb dX0_whole_17 (lv_at hl 3 rfl) ?_
      refine cwc_cost X P (fun _ h => Or.inr h) hw ⟨Nat.le_of_ble_eq_true rfl, Nat.le_of_ble_eq_true rfl⟩ ⟨Nat.zero_le _, Nat.zero_le _⟩ hl.1 (Nat.le_of_ble_eq_true rfl) dX0_whole_19 (fun r_3 F_4 Ar_5 H locs hw P => ?_)
      refine lv_i2l hx hb dX0_whole_22 rfl ?_
      refine lv_ladd hx hb dX0_whole_23 ?_
      refine lv_topl (fun x2_6 ex2_6 => ?_)
      replace hw := hw x2_6 ex2_6
      refine lv_lstore_n (lv' := [(2, .long x2_6), (0, .ref (ad 0)), (1, .ref (ad (wo y1_1))), (4, .int y4_1)]) hx hb dX0_whole_24 rfl hl (by decide) rfl (fun ls hl => ?_)
      refine lv_iinc (v := (y4_1 + 1)) (lv' := [(4, .int (y4_1 + 1)), (2, .long x2_6), (0, .ref (ad 0)), (1, .ref (ad (wo y1_1)))]) hx hb dX0_whole_25 hl (k := 3) rfl rfl (by decide) rfl (fun ls hl => ?_)
      refine lv_goto (tgt := 5) hx hb dX0_whole_28 (by decide) ?_
      exact hKh5_1 _ _ _ _ _ _ _ P (lv_sub hl [2, 3, 1, 0] rfl) hw
def wc_whole (Kd : tK) (T : tT) (F : tF) (Ar : tA) (a1 : Nat) (Q : Int64 → tF → tA → Prop) : Prop :=
  Kd a1 ≠ none ∧ (∃ n5, wc_whole_L5 Kd T a1 (fun (F_7 : tF) (Ar_8 : tA) (x2_9 : Int64) => Q x2_9 F_7 Ar_8) Q n5 F Ar 0 0)
set_option maxHeartbeats 4000000 in
theorem twc_whole (l : Launch) (D : va_G) (G ad : Nat → Nat) (Kd : tK) (U : tU) (T : tT) (zz : Int32) (F : tF) (Ar : tA) (a1 : Nat) (sz : Nat) (Q : Int64 → tF → tA → Prop) (hw : wc_whole Kd T F Ar a1 Q) : Met l yX0_whole (ws_ yX0_whole cX0_whole 5 (some .long)) ({ frames := 203, cells := 0, slots := 0, locals := 4675 }) (va_Pc [.ref (ad 0), .ref (ad (wo a1))] (cPb D G ad Kd U T zz F Ar sz)) (cQl D G ad Kd U T zz sz Q) 0 0 (cReg G ad Kd U zz sz) := by
  refine c_entry (by decide) (Nat.le_of_ble_eq_true rfl) ?_
  intro p e s m args below meth c ls X hr hsz P hl
  subst hsz
  have X : cCx p s m args meth c cX0_whole 5 RX0 D G := X
  obtain ⟨hx, hb, hml, hown, hts, -, hlk, -⟩ := id X
  have S : CallFix p m c _ _ s _ lw_all RX0 := ⟨hx, hb, hml, hown, hts⟩
  have hl : lv_has ls 5 [(0, .ref (ad 0)), (1, .ref (ad (wo a1)))] := hl
  have hka1 := hw.1
  replace hw := hw.2
  refine lv_lconst (v := 0) hx hb dX0_whole_0 (by decide) ?_
  refine lv_lstore_n (lv' := [(2, .long 0), (0, .ref (ad 0)), (1, .ref (ad (wo a1)))]) hx hb dX0_whole_1 rfl hl (by decide) rfl (fun ls hl => ?_)
  refine lv_iconst (v := 0) hx hb dX0_whole_2 (by decide) ?_
  refine lv_istore (lv' := [(4, .int 0), (2, .long 0), (0, .ref (ad 0)), (1, .ref (ad (wo a1)))]) hx hb dX0_whole_3 hl (by decide) rfl (fun ls hl => ?_)
  obtain ⟨n_10, hw⟩ := hw
  refine kwc_whole_L5 X hr _ _ _ _   hka1 ?_ n_10 _ _ _ _ _ _ _ P (lv_sub hl [2, 3, 1, 0] rfl) hw
  · intro F_7 Ar_8 x2_9 H locs ls P hl hw
    refine lv_lload_n hx hb dX0_whole_31 rfl (lv_at hl 1 rfl) ?_
    exact c_lret X P hr hw dX0_whole_32
theorem cwc_whole {Q : Int64 → tF → tA → Prop} {a1 : Nat} {Z : State → Prop} {A : Nat → Prop} {cells slots : Nat} {H : Heap} {locs : List Loc} {F : tF} {Ar : tA} (X : cCx p s m args meth c cc nL RX0 D G) (P : cP D A G ad s.heap Kd U T zz F Ar H locs) (hA : ∀ q, s.heap.size ≤ q → A q) (hw : wc_whole Kd T F Ar a1 Q) (hR : 203 + 1 ≤ R.frames ∧ 8 + (5 + 11) + 4675 ≤ R.locals) (hC : cells ≤ R.cells ∧ slots ≤ R.slots) (hls : ls.size = nL) (hst : (rest.map fun v => v.category).sum ≤ 8) (hdg : decode cc pc = .ok (.invokevirtual 261, 3)) (kk : ∀ (r : Int64) (F1 : tF) (A1 : tA) (H1 : Heap) (locs1 : List Loc), Q r F1 A1 → cP D A G ad s.heap Kd U T zz F1 A1 H1 locs1 → W p l e R s m args below meth c H1 locs1 cells slots Z (F0 m (pc + 3) ls (.long r :: rest))) : W p l e R s m args below meth c H locs cells slots Z (F0 m pc ls (.ref (ad (wo a1)) :: .ref (ad 0) :: rest)) := by
  obtain ⟨hx, hb, hml, hown, hts, hK, hlk, hN⟩ := id X
  exact va_calll (va_runV (C := RX0) (As := [.ref (ad (wo a1))]) (rest := rest) ⟨hx, hb, hml, hown, hts⟩ (twc_whole l D G ad Kd U T zz F Ar a1 H.size Q hw) (cwV 1 hts (lw_V q1100 q1102 qs27 q64 q1103) rfl rfl rfl (by decide +kernel) hR) (c_prev X P) rfl rfl hls rfl (lv_room hst) hdg hC) P.2.2.1 (fun q _ h => P.regA hA q h) (fun q h => P.regA hA q h) (fun r u t H1 locs1 ht hvm hp hB _ _ hS => kk r u.1 u.2 H1 locs1 hp (c_afterA P ht hB hS))
-- sum
def wc_sum_J134 (Kd : tK) (T : tT) (F : tF) (Ar : tA) (y2_17 : Int32) (y3_17 : Nat) (y4_17 : Int64) (y6_17 : Int32) (Kh57_10 : tF → tA → Int64 → Int32 → Prop) (Q : Int64 → tF → tA → Prop) : Prop :=
  (Kh57_10 F Ar y4_17 (y6_17 + 1))
set_option maxHeartbeats 4000000 in
theorem kwc_sum_J134 {Q : Int64 → tF → tA → Prop} (X : cCx p s m args meth c cX0_sum 7 RX0 D G) (hr : meth.sig.returnType = (some .long)) {F : tF} {Ar : tA} (y2_17 : Int32) (y3_17 : Nat) (y4_17 : Int64) (y6_17 : Int32) (Kh57_10 : tF → tA → Int64 → Int32 → Prop) (hky3_17 : Kd y3_17 ≠ none) {H : Heap} {locs : List Loc} {ls : Array Slot} (P : cP D (cReg G ad Kd U zz s.heap.size) G ad s.heap Kd U T zz F Ar H locs) (hl : lv_has ls 7 [(0, .ref (ad 0)), (2, .int y2_17), (3, .ref (ad (wo y3_17))), (4, .long y4_17), (6, .int y6_17)]) (hw : wc_sum_J134 Kd T F Ar y2_17 y3_17 y4_17 y6_17 Kh57_10 Q) (hKh57_10 : ∀ (F_ : tF) (Ar_ : tA) (w4_ : Int64) (w6_ : Int32) (H : Heap) (locs : List Loc) (ls : Array Slot), cP D (cReg G ad Kd U zz s.heap.size) G ad s.heap Kd U T zz F_ Ar_ H locs → lv_has ls 7 [(0, .ref (ad 0)), (2, .int y2_17), (3, .ref (ad (wo y3_17))), (4, .long w4_), (6, .int w6_)] → Kh57_10 F_ Ar_ w4_ w6_ → W p l e ({ frames := 204, cells := 0, slots := 0, locals := 4699 }) s m args below meth c H locs 0 0 (MQ below (cQl D G ad Kd U T zz s.heap.size Q) args s 0 0 (cReg G ad Kd U zz s.heap.size)) (F0 m 57 ls [])) : W p l e ({ frames := 204, cells := 0, slots := 0, locals := 4699 }) s m args below meth c H locs 0 0 (MQ below (cQl D G ad Kd U T zz s.heap.size Q) args s 0 0 (cReg G ad Kd U zz s.heap.size)) (F0 m 134 ls []) := by
  obtain ⟨hx, hb, hml, hown, hts, -, hlk, -⟩ := id X
  have S : CallFix p m c _ _ s args lw_all RX0 := ⟨hx, hb, hml, hown, hts⟩
  refine lv_iinc (v := (y6_17 + 1)) (lv' := [(6, .int (y6_17 + 1)), (0, .ref (ad 0)), (2, .int y2_17), (3, .ref (ad (wo y3_17))), (4, .long y4_17)]) hx hb dX0_sum_134 hl (k := 4) rfl rfl (by decide) rfl (fun ls hl => ?_)
  refine lv_goto (tgt := 57) hx hb dX0_sum_137 (by decide) ?_
  exact hKh57_10 _ _ _ _ _ _ _ P (lv_sub hl [1, 2, 3, 4, 0] rfl) hw
def wc_sum_J131 (Kd : tK) (T : tT) (F : tF) (Ar : tA) (y2_15 : Int32) (y3_15 : Nat) (y6_15 : Int32) (z0_15 : Int64) (z1_15 : Int64) (Kh57_10 : tF → tA → Int64 → Int32 → Prop) (Q : Int64 → tF → tA → Prop) : Prop :=
  ∀ x4_16 : Int64, x4_16 = (z1_15 + z0_15) → (wc_sum_J134 Kd T F Ar y2_15 y3_15 x4_16 y6_15 Kh57_10 Q)
set_option maxHeartbeats 4000000 in
theorem kwc_sum_J131 {Q : Int64 → tF → tA → Prop} (X : cCx p s m args meth c cX0_sum 7 RX0 D G) (hr : meth.sig.returnType = (some .long)) {F : tF} {Ar : tA} (y2_15 : Int32) (y3_15 : Nat) (y6_15 : Int32) (z0_15 : Int64) (z1_15 : Int64) (Kh57_10 : tF → tA → Int64 → Int32 → Prop) (hky3_15 : Kd y3_15 ≠ none) {H : Heap} {locs : List Loc} {ls : Array Slot} (P : cP D (cReg G ad Kd U zz s.heap.size) G ad s.heap Kd U T zz F Ar H locs) (hl : lv_has ls 7 [(0, .ref (ad 0)), (2, .int y2_15), (3, .ref (ad (wo y3_15))), (6, .int y6_15)]) (hw : wc_sum_J131 Kd T F Ar y2_15 y3_15 y6_15 z0_15 z1_15 Kh57_10 Q) (hKh57_10 : ∀ (F_ : tF) (Ar_ : tA) (w4_ : Int64) (w6_ : Int32) (H : Heap) (locs : List Loc) (ls : Array Slot), cP D (cReg G ad Kd U zz s.heap.size) G ad s.heap Kd U T zz F_ Ar_ H locs → lv_has ls 7 [(0, .ref (ad 0)), (2, .int y2_15), (3, .ref (ad (wo y3_15))), (4, .long w4_), (6, .int w6_)] → Kh57_10 F_ Ar_ w4_ w6_ → W p l e ({ frames := 204, cells := 0, slots := 0, locals := 4699 }) s m args below meth c H locs 0 0 (MQ below (cQl D G ad Kd U T zz s.heap.size Q) args s 0 0 (cReg G ad Kd U zz s.heap.size)) (F0 m 57 ls [])) : W p l e ({ frames := 204, cells := 0, slots := 0, locals := 4699 }) s m args below meth c H locs 0 0 (MQ below (cQl D G ad Kd U T zz s.heap.size Q) args s 0 0 (cReg G ad Kd U zz s.heap.size)) (F0 m 131 ls [.long z0_15, .long z1_15]) := by
  obtain ⟨hx, hb, hml, hown, hts, -, hlk, -⟩ := id X
  have S : CallFix p m c _ _ s args lw_all RX0 := ⟨hx, hb, hml, hown, hts⟩
  refine lv_ladd hx hb dX0_sum_131 ?_
  refine lv_topl (fun x4_16 ex4_16 => ?_)
  replace hw := hw x4_16 ex4_16
  refine lv_lstore (lv' := [(4, .long x4_16), (0, .ref (ad 0)), (2, .int y2_15), (3, .ref (ad (wo y3_15))), (6, .int y6_15)]) hx hb dX0_sum_132 hl (by decide) rfl (fun ls hl => ?_)
  exact kwc_sum_J134 X hr _ _ _ _ _ hky3_15 P (lv_sub hl [1, 2, 3, 0, 4] rfl) hw hKh57_10
def wc_sum_L57 (Kd : tK) (T : tT) (y2_10 : Int32) (y3_10 : Nat) (Kx140_10 : tF → tA → Int64 → Prop) (Q : Int64 → tF → tA → Prop) : Nat → tF → tA → Int64 → Int32 → Prop
  | 0, _, _, _, _ => False
  | f57 + 1, F, Ar, y4_10, y6_10 =>
    (((F (wa y3_10)) ≤ y6_10 → (Kx140_10 F Ar y4_10)) ∧ (¬ (F (wa y3_10)) ≤ y6_10 → vp_in y6_10 16 ∧ ((¬ (Ar 13 y6_10.toNatClampNeg) = (-1) → ((¬ y2_10 = 1 → ((¬ y2_10 = 2 → vp_in y6_10 16 ∧ vp_in y6_10 16 ∧ (wc_sum_J131 Kd T F Ar y2_10 y3_10 y6_10 (((Ar 13 y6_10.toNatClampNeg) - (Ar 12 y6_10.toNatClampNeg)).toInt64) y4_10 (wc_sum_L57 Kd T y2_10 y3_10 Kx140_10 Q f57) Q)) ∧ (y2_10 = 2 → wc_paid Kd T F Ar y3_10 y6_10 (fun r_18 => (wc_sum_J131 Kd T F Ar y2_10 y3_10 y6_10 (r_18.toInt64) y4_10 (wc_sum_L57 Kd T y2_10 y3_10 Kx140_10 Q f57) Q))))) ∧ (y2_10 = 1 → wc_asks Kd T F Ar y3_10 y6_10 1 (fun r_19 F_20 Ar_21 => (wc_sum_J131 Kd T F_20 Ar_21 y2_10 y3_10 y6_10 (r_19.toInt64) y4_10 (wc_sum_L57 Kd T y2_10 y3_10 Kx140_10 Q f57) Q))))) ∧ ((Ar 13 y6_10.toNatClampNeg) = (-1) → (wc_sum_J134 Kd T F Ar y2_10 y3_10 y4_10 y6_10 (wc_sum_L57 Kd T y2_10 y3_10 Kx140_10 Q f57) Q)))))
set_option maxHeartbeats 4000000 in
theorem kwc_sum_L57 {Q : Int64 → tF → tA → Prop} (X : cCx p s m args meth c cX0_sum 7 RX0 D G) (hr : meth.sig.returnType = (some .long)) (Kd : tK) (T : tT) (y2_10 : Int32) (y3_10 : Nat) (Kx140_10 : tF → tA → Int64 → Prop) (hky3_10 : Kd y3_10 ≠ none) (hKx140_10 : ∀ (F_ : tF) (Ar_ : tA) (w4_ : Int64) (H : Heap) (locs : List Loc) (ls : Array Slot), cP D (cReg G ad Kd U zz s.heap.size) G ad s.heap Kd U T zz F_ Ar_ H locs → lv_has ls 7 [(0, .ref (ad 0)), (4, .long w4_)] → Kx140_10 F_ Ar_ w4_ → W p l e ({ frames := 204, cells := 0, slots := 0, locals := 4699 }) s m args below meth c H locs 0 0 (MQ below (cQl D G ad Kd U T zz s.heap.size Q) args s 0 0 (cReg G ad Kd U zz s.heap.size)) (F0 m 140 ls [])) : ∀ (n : Nat) (F : tF) (Ar : tA) (y4_10 : Int64) (y6_10 : Int32) (H : Heap) (locs : List Loc) (ls : Array Slot), cP D (cReg G ad Kd U zz s.heap.size) G ad s.heap Kd U T zz F Ar H locs → lv_has ls 7 [(0, .ref (ad 0)), (2, .int y2_10), (3, .ref (ad (wo y3_10))), (4, .long y4_10), (6, .int y6_10)] → wc_sum_L57 Kd T y2_10 y3_10 Kx140_10 Q n F Ar y4_10 y6_10 → W p l e ({ frames := 204, cells := 0, slots := 0, locals := 4699 }) s m args below meth c H locs 0 0 (MQ below (cQl D G ad Kd U T zz s.heap.size Q) args s 0 0 (cReg G ad Kd U zz s.heap.size)) (F0 m 57 ls []) := by
  obtain ⟨hx, hb, hml, hown, hts, -, hlk, -⟩ := id X
  have S : CallFix p m c _ _ s args lw_all RX0 := ⟨hx, hb, hml, hown, hts⟩
  intro n
  induction n with
  | zero =>
    intro F Ar y4_10 y6_10 H locs ls P hl hw
    exact hw.elim
  | succ n ih =>
    intro F Ar y4_10 y6_10 H locs ls P hl hw
    have hKh57_10 := ih
    refine lv_iload hx hb dX0_sum_57 (lv_at hl 4 rfl) ?_
    refine lv_aload_n hx hb dX0_sum_59 rfl (lv_at hl 2 rfl) ?_
    refine c_wg_carts X P hky3_10 dX0_sum_60 ?_
    refine lv_icmp_ge (tgt := 140) hx hb dX0_sum_63 (by decide) (fun c_11 => ?_) (fun c_11 => ?_)
    · replace hw := hw.1 c_11
      exact hKx140_10 _ _ _ _ _ _ P (lv_sub hl [0, 3] rfl) hw
    · replace hw := hw.2 c_11
      refine lv_aload_n hx hb dX0_sum_66 rfl (lv_at hl 0 rfl) ?_
      refine cg_passed X P dX0_sum_67 ?_
      refine lv_iload hx hb dX0_sum_70 (lv_at hl 4 rfl) ?_
      refine c_iald X P (rfl : cArr Kd 13 = some (0, 16)) hw.1 dX0_sum_72 ?_
      replace hw := hw.2
      refine lv_iconst (v := (-1)) hx hb dX0_sum_73 (by decide) ?_
      refine lv_icmp_ne (tgt := 80) hx hb dX0_sum_74 (by decide) (fun c_12 => ?_) (fun c_12 => ?_)
      · replace hw := hw.1 c_12
        refine lv_lload hx hb dX0_sum_80 (lv_at hl 3 rfl) ?_
        refine lv_iload_n hx hb dX0_sum_82 rfl (lv_at hl 1 rfl) ?_
        refine lv_iconst (v := 1) hx hb dX0_sum_83 (by decide) ?_
        refine lv_icmp_ne (tgt := 99) hx hb dX0_sum_84 (by decide) (fun c_13 => ?_) (fun c_13 => ?_)
        · replace hw := hw.1 c_13
          refine lv_iload_n hx hb dX0_sum_99 rfl (lv_at hl 1 rfl) ?_
          refine lv_iconst (v := 2) hx hb dX0_sum_100 (by decide) ?_
          refine lv_icmp_ne (tgt := 115) hx hb dX0_sum_101 (by decide) (fun c_14 => ?_) (fun c_14 => ?_)
          · replace hw := hw.1 c_14
            refine lv_aload_n hx hb dX0_sum_115 rfl (lv_at hl 0 rfl) ?_
            refine cg_passed X P dX0_sum_116 ?_
            refine lv_iload hx hb dX0_sum_119 (lv_at hl 4 rfl) ?_
            refine c_iald X P (rfl : cArr Kd 13 = some (0, 16)) hw.1 dX0_sum_121 ?_
            replace hw := hw.2
            refine lv_aload_n hx hb dX0_sum_122 rfl (lv_at hl 0 rfl) ?_
            refine cg_came X P dX0_sum_123 ?_
            refine lv_iload hx hb dX0_sum_126 (lv_at hl 4 rfl) ?_
            refine c_iald X P (rfl : cArr Kd 12 = some (0, 16)) hw.1 dX0_sum_128 ?_
            replace hw := hw.2
            refine lv_isub hx hb dX0_sum_129 ?_
            refine lv_i2l hx hb dX0_sum_130 rfl ?_
            exact kwc_sum_J131 X hr _ _ _ _ _ _ hky3_10 P (lv_sub hl [0, 1, 2, 4] rfl) hw hKh57_10
          · replace hw := hw.2 c_14
            refine lv_aload_n hx hb dX0_sum_104 rfl (lv_at hl 0 rfl) ?_
            refine lv_aload_n hx hb dX0_sum_105 rfl (lv_at hl 2 rfl) ?_
            refine lv_iload hx hb dX0_sum_106 (lv_at hl 4 rfl) ?_
            refine cwc_paid X P (fun _ h => Or.inr h) hw ⟨Nat.le_of_ble_eq_true rfl, Nat.le_of_ble_eq_true rfl⟩ ⟨Nat.zero_le _, Nat.zero_le _⟩ hl.1 (Nat.le_of_ble_eq_true rfl) dX0_sum_108 (fun r_18 hw => ?_)
            refine lv_i2l hx hb dX0_sum_111 rfl ?_
            refine lv_goto (tgt := 131) hx hb dX0_sum_112 (by decide) ?_
            exact kwc_sum_J131 X hr _ _ _ _ _ _ hky3_10 P (lv_sub hl [0, 1, 2, 4] rfl) hw hKh57_10
        · replace hw := hw.2 c_13
          refine lv_aload_n hx hb dX0_sum_87 rfl (lv_at hl 0 rfl) ?_
          refine lv_aload_n hx hb dX0_sum_88 rfl (lv_at hl 2 rfl) ?_
          refine lv_iload hx hb dX0_sum_89 (lv_at hl 4 rfl) ?_
          refine lv_iconst (v := 1) hx hb dX0_sum_91 (by decide) ?_
          refine cwc_asks X P (fun _ h => Or.inr h) hw ⟨Nat.le_of_ble_eq_true rfl, Nat.le_of_ble_eq_true rfl⟩ ⟨Nat.zero_le _, Nat.zero_le _⟩ hl.1 (Nat.le_of_ble_eq_true rfl) dX0_sum_92 (fun r_19 F_20 Ar_21 H locs hw P => ?_)
          refine lv_i2l hx hb dX0_sum_95 rfl ?_
          refine lv_goto (tgt := 131) hx hb dX0_sum_96 (by decide) ?_
          exact kwc_sum_J131 X hr _ _ _ _ _ _ hky3_10 P (lv_sub hl [0, 1, 2, 4] rfl) hw hKh57_10
      · replace hw := hw.2 c_12
        refine lv_goto (tgt := 134) hx hb dX0_sum_77 (by decide) ?_
        exact kwc_sum_J134 X hr _ _ _ _ _ hky3_10 P (lv_sub hl [0, 1, 2, 3, 4] rfl) hw hKh57_10
def wc_sum (Kd : tK) (T : tT) (F : tF) (Ar : tA) (a1 : Int32) (a2 : Int32) (Q : Int64 → tF → tA → Prop) : Prop :=
  wc_isWay Kd T F Ar a1 (fun r_1 => ((r_1 = 0 → Q (-4611686018427387904) F Ar) ∧ (¬ r_1 = 0 → wc_in (a2.toInt64) 0 3 (fun r_3 => ((¬ r_3 = 0 → (¬ a1 < 0 ∧ a1 < F 32) ∧ wc_runs Kd T F Ar (a1.toNatClampNeg) (fun F_7 Ar_8 => ((¬ a2 = 0 → (∃ n57, wc_sum_L57 Kd T a2 (a1.toNatClampNeg) (fun (F_22 : tF) (Ar_23 : tA) (x4_24 : Int64) => Q x4_24 F_22 Ar_23) Q n57 F_7 Ar_8 0 0)) ∧ (a2 = 0 → wc_whole Kd T F_7 Ar_8 (a1.toNatClampNeg) (fun r_26 F_27 Ar_28 => Q r_26 F_27 Ar_28))))) ∧ (r_3 = 0 → Q (-4611686018427387904) F Ar))))))
set_option maxHeartbeats 4000000 in
theorem twc_sum (l : Launch) (D : va_G) (G ad : Nat → Nat) (Kd : tK) (U : tU) (T : tT) (zz : Int32) (F : tF) (Ar : tA) (a1 : Int32) (a2 : Int32) (sz : Nat) (Q : Int64 → tF → tA → Prop) (hw : wc_sum Kd T F Ar a1 a2 Q) : Met l yX0_sum (ws_ yX0_sum cX0_sum 7 (some .long)) ({ frames := 204, cells := 0, slots := 0, locals := 4699 }) (va_Pc [.ref (ad 0), .int a1, .int a2] (cPb D G ad Kd U T zz F Ar sz)) (cQl D G ad Kd U T zz sz Q) 0 0 (cReg G ad Kd U zz sz) := by
  refine c_entry (by decide) (Nat.le_of_ble_eq_true rfl) ?_
  intro p e s m args below meth c ls X hr hsz P hl
  subst hsz
  have X : cCx p s m args meth c cX0_sum 7 RX0 D G := X
  obtain ⟨hx, hb, hml, hown, hts, -, hlk, -⟩ := id X
  have S : CallFix p m c _ _ s _ lw_all RX0 := ⟨hx, hb, hml, hown, hts⟩
  have hl : lv_has ls 7 [(0, .ref (ad 0)), (1, .int a1), (2, .int a2)] := hl
  refine lv_aload_n hx hb dX0_sum_0 rfl (lv_at hl 0 rfl) ?_
  refine lv_iload_n hx hb dX0_sum_1 rfl (lv_at hl 1 rfl) ?_
  refine cwc_isWay X P (fun _ h => Or.inr h) hw ⟨Nat.le_of_ble_eq_true rfl, Nat.le_of_ble_eq_true rfl⟩ ⟨Nat.zero_le _, Nat.zero_le _⟩ hl.1 (Nat.le_of_ble_eq_true rfl) dX0_sum_2 (fun r_1 hw => ?_)
  refine lv_if_eq (tgt := 20) hx hb dX0_sum_5 (by decide) (fun c_2 => ?_) (fun c_2 => ?_)
  · replace hw := hw.1 c_2
    refine lv_ldc2 (v := (-4611686018427387904)) hx hb hown (hts _ q1099) dX0_sum_20 ?_
    exact c_lret X P hr hw dX0_sum_23
  · replace hw := hw.2 c_2
    refine lv_iload_n hx hb dX0_sum_8 rfl (lv_at hl 2 rfl) ?_
    refine lv_i2l hx hb dX0_sum_9 rfl ?_
    refine lv_lconst (v := 0) hx hb dX0_sum_10 (by decide) ?_
    refine lv_ldc2 (v := 3) hx hb hown (hts _ q794) dX0_sum_11 ?_
    refine cwc_in S hw ⟨Nat.le_of_ble_eq_true rfl, Nat.le_of_ble_eq_true rfl⟩ ⟨Nat.zero_le _, Nat.zero_le _⟩ hl.1 (Nat.le_of_ble_eq_true rfl) dX0_sum_14 (fun r_3 hw => ?_)
    refine lv_if_ne (tgt := 24) hx hb dX0_sum_17 (by decide) (fun c_4 => ?_) (fun c_4 => ?_)
    · replace hw := hw.1 c_4
      refine lv_aload_n hx hb dX0_sum_24 rfl (lv_at hl 0 rfl) ?_
      refine cg_ways X P dX0_sum_25 ?_
      refine lv_iload_n hx hb dX0_sum_28 rfl (lv_at hl 1 rfl) ?_
      refine c_lget X P hw.1.1 hw.1.2 ⟨Nat.le_of_ble_eq_true rfl, Nat.le_of_ble_eq_true rfl⟩ hl.1 (Nat.le_of_ble_eq_true rfl) ⟨Nat.zero_le _, Nat.zero_le _⟩ dX0_sum_29 (fun hk_5 => ?_)
      replace hw := hw.2
      refine c_castW X P hk_5 dX0_sum_32 ?_
      refine lv_astore_n (lv' := [(3, .ref (ad (wo (a1.toNatClampNeg)))), (0, .ref (ad 0)), (1, .int a1), (2, .int a2)]) hx hb dX0_sum_35 rfl hl (by decide) rfl (fun ls hl => ?_)
      refine lv_aload_n hx hb dX0_sum_36 rfl (lv_at hl 1 rfl) ?_
      refine lv_aload_n hx hb dX0_sum_37 rfl (lv_at hl 0 rfl) ?_
      refine cwc_runs X P (fun _ h => Or.inr h) hw ⟨Nat.le_of_ble_eq_true rfl, Nat.le_of_ble_eq_true rfl⟩ ⟨Nat.zero_le _, Nat.zero_le _⟩ hl.1 (Nat.le_of_ble_eq_true rfl) dX0_sum_38 (fun F_7 Ar_8 H locs hw P => ?_)
      refine lv_iload_n hx hb dX0_sum_41 rfl (lv_at hl 3 rfl) ?_
      refine lv_if_ne (tgt := 51) hx hb dX0_sum_42 (by decide) (fun c_9 => ?_) (fun c_9 => ?_)
      · replace hw := hw.1 c_9
        refine lv_lconst (v := 0) hx hb dX0_sum_51 (by decide) ?_
        refine lv_lstore (lv' := [(4, .long 0), (3, .ref (ad (wo (a1.toNatClampNeg)))), (0, .ref (ad 0)), (1, .int a1), (2, .int a2)]) hx hb dX0_sum_52 hl (by decide) rfl (fun ls hl => ?_)
        refine lv_iconst (v := 0) hx hb dX0_sum_54 (by decide) ?_
        refine lv_istore (lv' := [(6, .int 0), (4, .long 0), (3, .ref (ad (wo (a1.toNatClampNeg)))), (0, .ref (ad 0)), (1, .int a1), (2, .int a2)]) hx hb dX0_sum_55 hl (by decide) rfl (fun ls hl => ?_)
        obtain ⟨n_25, hw⟩ := hw
        refine kwc_sum_L57 X hr _ _ _ _ _   hk_5 ?_ n_25 _ _ _ _ _ _ _ P (lv_sub hl [3, 5, 2, 1, 0] rfl) hw
        · intro F_22 Ar_23 x4_24 H locs ls P hl hw
          refine lv_lload hx hb dX0_sum_140 (lv_at hl 1 rfl) ?_
          exact c_lret X P hr hw dX0_sum_142
      · replace hw := hw.2 c_9
        refine lv_aload_n hx hb dX0_sum_45 rfl (lv_at hl 1 rfl) ?_
        refine lv_aload_n hx hb dX0_sum_46 rfl (lv_at hl 0 rfl) ?_
        refine cwc_whole X P (fun _ h => Or.inr h) hw ⟨Nat.le_of_ble_eq_true rfl, Nat.le_of_ble_eq_true rfl⟩ ⟨Nat.zero_le _, Nat.zero_le _⟩ hl.1 (Nat.le_of_ble_eq_true rfl) dX0_sum_47 (fun r_26 F_27 Ar_28 H locs hw P => ?_)
        exact c_lret X P hr hw dX0_sum_50
    · replace hw := hw.2 c_4
      refine lv_ldc2 (v := (-4611686018427387904)) hx hb hown (hts _ q1099) dX0_sum_20 ?_
      exact c_lret X P hr hw dX0_sum_23
-- betters
def wc_betters_J90 (Kd : tK) (T : tT) (F : tF) (Ar : tA) (y1_21 : Nat) (y2_21 : Int32) (y3_21 : Int32) (y4_21 : Int32) (y5_21 : Int32) (y6_21 : Int32) (Kh32_9 : tF → tA → Int32 → Int32 → Prop) (Q : Int32 → tF → tA → Prop) : Prop :=
  (Kh32_9 F Ar y5_21 (y6_21 + 1))
set_option maxHeartbeats 4000000 in
theorem kwc_betters_J90 {Q : Int32 → tF → tA → Prop} (X : cCx p s m args meth c cX0_betters 9 RX0 D G) (hr : meth.sig.returnType = (some .boolean)) {F : tF} {Ar : tA} (y1_21 : Nat) (y2_21 : Int32) (y3_21 : Int32) (y4_21 : Int32) (y5_21 : Int32) (y6_21 : Int32) (Kh32_9 : tF → tA → Int32 → Int32 → Prop) (hky1_21 : Kd y1_21 ≠ none) {H : Heap} {locs : List Loc} {ls : Array Slot} (P : cP D (cReg G ad Kd U zz s.heap.size) G ad s.heap Kd U T zz F Ar H locs) (hl : lv_has ls 9 [(0, .ref (ad 0)), (1, .ref (ad (wo y1_21))), (2, .int y2_21), (3, .int y3_21), (4, .int y4_21), (5, .int y5_21), (6, .int y6_21)]) (hw : wc_betters_J90 Kd T F Ar y1_21 y2_21 y3_21 y4_21 y5_21 y6_21 Kh32_9 Q) (hKh32_9 : ∀ (F_ : tF) (Ar_ : tA) (w5_ : Int32) (w6_ : Int32) (H : Heap) (locs : List Loc) (ls : Array Slot), cP D (cReg G ad Kd U zz s.heap.size) G ad s.heap Kd U T zz F_ Ar_ H locs → lv_has ls 9 [(0, .ref (ad 0)), (1, .ref (ad (wo y1_21))), (2, .int y2_21), (3, .int y3_21), (4, .int y4_21), (5, .int w5_), (6, .int w6_)] → Kh32_9 F_ Ar_ w5_ w6_ → W p l e ({ frames := 203, cells := 0, slots := 0, locals := 4675 }) s m args below meth c H locs 0 0 (MQ below (cQi D G ad Kd U T zz s.heap.size Q) args s 0 0 (cReg G ad Kd U zz s.heap.size)) (F0 m 32 ls [])) : W p l e ({ frames := 203, cells := 0, slots := 0, locals := 4675 }) s m args below meth c H locs 0 0 (MQ below (cQi D G ad Kd U T zz s.heap.size Q) args s 0 0 (cReg G ad Kd U zz s.heap.size)) (F0 m 90 ls []) := by
  obtain ⟨hx, hb, hml, hown, hts, -, hlk, -⟩ := id X
  have S : CallFix p m c _ _ s args lw_all RX0 := ⟨hx, hb, hml, hown, hts⟩
  refine lv_iinc (v := (y6_21 + 1)) (lv' := [(6, .int (y6_21 + 1)), (0, .ref (ad 0)), (1, .ref (ad (wo y1_21))), (2, .int y2_21), (3, .int y3_21), (4, .int y4_21), (5, .int y5_21)]) hx hb dX0_betters_90 hl (k := 6) rfl rfl (by decide) rfl (fun ls hl => ?_)
  refine lv_goto (tgt := 32) hx hb dX0_betters_93 (by decide) ?_
  exact hKh32_9 _ _ _ _ _ _ _ P (lv_sub hl [1, 2, 3, 4, 5, 6, 0] rfl) hw
def wc_betters_L32 (Kd : tK) (T : tT) (y1_9 : Nat) (y2_9 : Int32) (y3_9 : Int32) (y4_9 : Int32) (Kx96_9 : tF → tA → Int32 → Prop) (Q : Int32 → tF → tA → Prop) : Nat → tF → tA → Int32 → Int32 → Prop
  | 0, _, _, _, _ => False
  | f32 + 1, F, Ar, y5_9, y6_9 =>
    (((48 : Int32) < y6_9 → (Kx96_9 F Ar y5_9)) ∧ (¬ (48 : Int32) < y6_9 → ((¬ y6_9 = y3_9 → vp_in y2_9 16 ∧ ∀ Ar_12 : tA, Ar_12 = aset Ar (wa y1_9) y2_9.toNatClampNeg (vp_nar .byte (y6_9.toInt8.toInt32)) → wc_runs Kd T F Ar_12 y1_9 (fun F_14 Ar_15 => wc_cost Kd T F_14 Ar_15 y1_9 y2_9 (fun r_16 F_17 Ar_18 => ((r_16 < y5_9 → ∀ F_20 : tF, F_20 = upd F_17 16 y6_9 → (wc_betters_J90 Kd T F_20 Ar_18 y1_9 y2_9 y3_9 y4_9 r_16 y6_9 (wc_betters_L32 Kd T y1_9 y2_9 y3_9 y4_9 Kx96_9 Q f32) Q)) ∧ (¬ r_16 < y5_9 → (wc_betters_J90 Kd T F_17 Ar_18 y1_9 y2_9 y3_9 y4_9 y5_9 y6_9 (wc_betters_L32 Kd T y1_9 y2_9 y3_9 y4_9 Kx96_9 Q f32) Q)))))) ∧ (y6_9 = y3_9 → (wc_betters_J90 Kd T F Ar y1_9 y2_9 y3_9 y4_9 y5_9 y6_9 (wc_betters_L32 Kd T y1_9 y2_9 y3_9 y4_9 Kx96_9 Q f32) Q)))))
set_option maxHeartbeats 4000000 in
theorem kwc_betters_L32 {Q : Int32 → tF → tA → Prop} (X : cCx p s m args meth c cX0_betters 9 RX0 D G) (hr : meth.sig.returnType = (some .boolean)) (Kd : tK) (T : tT) (y1_9 : Nat) (y2_9 : Int32) (y3_9 : Int32) (y4_9 : Int32) (Kx96_9 : tF → tA → Int32 → Prop) (hky1_9 : Kd y1_9 ≠ none) (hKx96_9 : ∀ (F_ : tF) (Ar_ : tA) (w5_ : Int32) (H : Heap) (locs : List Loc) (ls : Array Slot), cP D (cReg G ad Kd U zz s.heap.size) G ad s.heap Kd U T zz F_ Ar_ H locs → lv_has ls 9 [(0, .ref (ad 0)), (1, .ref (ad (wo y1_9))), (2, .int y2_9), (3, .int y3_9), (4, .int y4_9), (5, .int w5_)] → Kx96_9 F_ Ar_ w5_ → W p l e ({ frames := 203, cells := 0, slots := 0, locals := 4675 }) s m args below meth c H locs 0 0 (MQ below (cQi D G ad Kd U T zz s.heap.size Q) args s 0 0 (cReg G ad Kd U zz s.heap.size)) (F0 m 96 ls [])) : ∀ (n : Nat) (F : tF) (Ar : tA) (y5_9 : Int32) (y6_9 : Int32) (H : Heap) (locs : List Loc) (ls : Array Slot), cP D (cReg G ad Kd U zz s.heap.size) G ad s.heap Kd U T zz F Ar H locs → lv_has ls 9 [(0, .ref (ad 0)), (1, .ref (ad (wo y1_9))), (2, .int y2_9), (3, .int y3_9), (4, .int y4_9), (5, .int y5_9), (6, .int y6_9)] → wc_betters_L32 Kd T y1_9 y2_9 y3_9 y4_9 Kx96_9 Q n F Ar y5_9 y6_9 → W p l e ({ frames := 203, cells := 0, slots := 0, locals := 4675 }) s m args below meth c H locs 0 0 (MQ below (cQi D G ad Kd U T zz s.heap.size Q) args s 0 0 (cReg G ad Kd U zz s.heap.size)) (F0 m 32 ls []) := by
  obtain ⟨hx, hb, hml, hown, hts, -, hlk, -⟩ := id X
  have S : CallFix p m c _ _ s args lw_all RX0 := ⟨hx, hb, hml, hown, hts⟩
  intro n
  induction n with
  | zero =>
    intro F Ar y5_9 y6_9 H locs ls P hl hw
    exact hw.elim
  | succ n ih =>
    intro F Ar y5_9 y6_9 H locs ls P hl hw
    have hKh32_9 := ih
    refine lv_iload hx hb dX0_betters_32 (lv_at hl 6 rfl) ?_
    refine lv_bipush (v := 48) hx hb dX0_betters_34 (by decide) ?_
    refine lv_icmp_gt (tgt := 96) hx hb dX0_betters_36 (by decide) (fun c_10 => ?_) (fun c_10 => ?_)
    · replace hw := hw.1 c_10
      exact hKx96_9 _ _ _ _ _ _ P (lv_sub hl [0, 1, 2, 3, 4, 5] rfl) hw
    · replace hw := hw.2 c_10
      refine lv_iload hx hb dX0_betters_39 (lv_at hl 6 rfl) ?_
      refine lv_iload_n hx hb dX0_betters_41 rfl (lv_at hl 3 rfl) ?_
      refine lv_icmp_ne (tgt := 48) hx hb dX0_betters_42 (by decide) (fun c_11 => ?_) (fun c_11 => ?_)
      · replace hw := hw.1 c_11
        refine lv_aload_n hx hb dX0_betters_48 rfl (lv_at hl 1 rfl) ?_
        refine c_wg_choice X P hky1_9 dX0_betters_49 ?_
        refine lv_iload_n hx hb dX0_betters_52 rfl (lv_at hl 2 rfl) ?_
        refine lv_iload hx hb dX0_betters_53 (lv_at hl 6 rfl) ?_
        refine lv_i2b hx hb dX0_betters_55 rfl ?_
        refine c_bast X P (c_warr P hky1_9) hw.1 dX0_betters_56 (fun Ar_12 H locs eAr_12 P _ => ?_)
        replace hw := hw.2
        replace hw := hw Ar_12 eAr_12
        refine lv_aload_n hx hb dX0_betters_57 rfl (lv_at hl 0 rfl) ?_
        refine lv_aload_n hx hb dX0_betters_58 rfl (lv_at hl 1 rfl) ?_
        refine cwc_runs X P (fun _ h => Or.inr h) hw ⟨Nat.le_of_ble_eq_true rfl, Nat.le_of_ble_eq_true rfl⟩ ⟨Nat.zero_le _, Nat.zero_le _⟩ hl.1 (Nat.le_of_ble_eq_true rfl) dX0_betters_59 (fun F_14 Ar_15 H locs hw P => ?_)
        refine lv_aload_n hx hb dX0_betters_62 rfl (lv_at hl 0 rfl) ?_
        refine lv_aload_n hx hb dX0_betters_63 rfl (lv_at hl 1 rfl) ?_
        refine lv_iload_n hx hb dX0_betters_64 rfl (lv_at hl 2 rfl) ?_
        refine cwc_cost X P (fun _ h => Or.inr h) hw ⟨Nat.le_of_ble_eq_true rfl, Nat.le_of_ble_eq_true rfl⟩ ⟨Nat.zero_le _, Nat.zero_le _⟩ hl.1 (Nat.le_of_ble_eq_true rfl) dX0_betters_65 (fun r_16 F_17 Ar_18 H locs hw P => ?_)
        refine lv_istore (lv' := [(7, .int r_16), (0, .ref (ad 0)), (1, .ref (ad (wo y1_9))), (2, .int y2_9), (3, .int y3_9), (4, .int y4_9), (5, .int y5_9), (6, .int y6_9)]) hx hb dX0_betters_68 hl (by decide) rfl (fun ls hl => ?_)
        refine lv_iload hx hb dX0_betters_70 (lv_at hl 0 rfl) ?_
        refine lv_iload hx hb dX0_betters_72 (lv_at hl 6 rfl) ?_
        refine lv_icmp_lt (tgt := 80) hx hb dX0_betters_74 (by decide) (fun c_19 => ?_) (fun c_19 => ?_)
        · replace hw := hw.1 c_19
          refine lv_iload hx hb dX0_betters_80 (lv_at hl 0 rfl) ?_
          refine lv_istore (lv' := [(5, .int r_16), (7, .int r_16), (0, .ref (ad 0)), (1, .ref (ad (wo y1_9))), (2, .int y2_9), (3, .int y3_9), (4, .int y4_9), (6, .int y6_9)]) hx hb dX0_betters_82 hl (by decide) rfl (fun ls hl => ?_)
          refine lv_aload_n hx hb dX0_betters_84 rfl (lv_at hl 2 rfl) ?_
          refine lv_iload hx hb dX0_betters_85 (lv_at hl 7 rfl) ?_
          refine cp_betterChoice X P dX0_betters_87 (fun F_20 H locs eF_20 P _ => ?_)
          replace hw := hw F_20 eF_20
          exact kwc_betters_J90 X hr _ _ _ _ _ _ _ hky1_9 P (lv_sub hl [2, 3, 4, 5, 6, 0, 7] rfl) hw hKh32_9
        · replace hw := hw.2 c_19
          refine lv_goto (tgt := 90) hx hb dX0_betters_77 (by decide) ?_
          exact kwc_betters_J90 X hr _ _ _ _ _ _ _ hky1_9 P (lv_sub hl [1, 2, 3, 4, 5, 6, 7] rfl) hw hKh32_9
      · replace hw := hw.2 c_11
        refine lv_goto (tgt := 90) hx hb dX0_betters_45 (by decide) ?_
        exact kwc_betters_J90 X hr _ _ _ _ _ _ _ hky1_9 P (lv_sub hl [0, 1, 2, 3, 4, 5, 6] rfl) hw hKh32_9
def wc_betters (Kd : tK) (T : tT) (F : tF) (Ar : tA) (a1 : Nat) (a2 : Int32) (Q : Int32 → tF → tA → Prop) : Prop :=
  Kd a1 ≠ none ∧ vp_in a2 16 ∧ ∀ x3_1 : Int32, x3_1 = (Ar (wa a1) a2.toNatClampNeg) → wc_runs Kd T F Ar a1 (fun F_3 Ar_4 => wc_cost Kd T F_3 Ar_4 a1 a2 (fun r_5 F_6 Ar_7 => ∀ F_8 : tF, F_8 = upd F_6 16 x3_1 → (∃ n32, wc_betters_L32 Kd T a1 a2 x3_1 r_5 (fun (F_22 : tF) (Ar_23 : tA) (x5_24 : Int32) => vp_in a2 16 ∧ ∀ Ar_25 : tA, Ar_25 = aset Ar_23 (wa a1) a2.toNatClampNeg (vp_nar .byte (x3_1.toInt8.toInt32)) → ∀ F_26 : tF, F_26 = upd F_22 17 (r_5 - x5_24) → (((F_26 17) ≤ 0 → Q 0 F_26 Ar_25) ∧ (¬ (F_26 17) ≤ 0 → Q 1 F_26 Ar_25))) Q n32 F_8 Ar_7 r_5 0)))
set_option maxHeartbeats 4000000 in
theorem twc_betters (l : Launch) (D : va_G) (G ad : Nat → Nat) (Kd : tK) (U : tU) (T : tT) (zz : Int32) (F : tF) (Ar : tA) (a1 : Nat) (a2 : Int32) (sz : Nat) (Q : Int32 → tF → tA → Prop) (hw : wc_betters Kd T F Ar a1 a2 Q) : Met l yX0_betters (wsW_ yX0_betters cX0_betters 9 (some .boolean) [(29, 96, 107, 0), (107, 109, 107, 0)]) ({ frames := 203, cells := 0, slots := 0, locals := 4675 }) (va_Pc [.ref (ad 0), .ref (ad (wo a1)), .int a2] (cPb D G ad Kd U T zz F Ar sz)) (cQi D G ad Kd U T zz sz Q) 0 0 (cReg G ad Kd U zz sz) := by
  refine c_entryW (by decide) (Nat.le_of_ble_eq_true rfl) ?_
  intro p e s m args below meth c ls X hr hsz P hl
  subst hsz
  have X : cCx p s m args meth c cX0_betters 9 RX0 D G := X
  obtain ⟨hx, hb, hml, hown, hts, -, hlk, -⟩ := id X
  have S : CallFix p m c _ _ s _ lw_all RX0 := ⟨hx, hb, hml, hown, hts⟩
  have hl : lv_has ls 9 [(0, .ref (ad 0)), (1, .ref (ad (wo a1))), (2, .int a2)] := hl
  have hka1 := hw.1
  replace hw := hw.2
  refine lv_aload_n hx hb dX0_betters_0 rfl (lv_at hl 1 rfl) ?_
  refine c_wg_choice X P hka1 dX0_betters_1 ?_
  refine lv_iload_n hx hb dX0_betters_4 rfl (lv_at hl 2 rfl) ?_
  refine c_bald X P (c_warr P hka1) hw.1 dX0_betters_5 ?_
  replace hw := hw.2
  refine lv_topi (fun x3_1 ex3_1 => ?_)
  replace hw := hw x3_1 ex3_1
  refine lv_istore_n (lv' := [(3, .int x3_1), (0, .ref (ad 0)), (1, .ref (ad (wo a1))), (2, .int a2)]) hx hb dX0_betters_6 rfl hl (by decide) rfl (fun ls hl => ?_)
  refine lv_aload_n hx hb dX0_betters_7 rfl (lv_at hl 1 rfl) ?_
  refine lv_aload_n hx hb dX0_betters_8 rfl (lv_at hl 2 rfl) ?_
  refine cwc_runs X P (fun _ h => Or.inr h) hw ⟨Nat.le_of_ble_eq_true rfl, Nat.le_of_ble_eq_true rfl⟩ ⟨Nat.zero_le _, Nat.zero_le _⟩ hl.1 (Nat.le_of_ble_eq_true rfl) dX0_betters_9 (fun F_3 Ar_4 H locs hw P => ?_)
  refine lv_aload_n hx hb dX0_betters_12 rfl (lv_at hl 1 rfl) ?_
  refine lv_aload_n hx hb dX0_betters_13 rfl (lv_at hl 2 rfl) ?_
  refine lv_iload_n hx hb dX0_betters_14 rfl (lv_at hl 3 rfl) ?_
  refine cwc_cost X P (fun _ h => Or.inr h) hw ⟨Nat.le_of_ble_eq_true rfl, Nat.le_of_ble_eq_true rfl⟩ ⟨Nat.zero_le _, Nat.zero_le _⟩ hl.1 (Nat.le_of_ble_eq_true rfl) dX0_betters_15 (fun r_5 F_6 Ar_7 H locs hw P => ?_)
  refine lv_istore (lv' := [(4, .int r_5), (3, .int x3_1), (0, .ref (ad 0)), (1, .ref (ad (wo a1))), (2, .int a2)]) hx hb dX0_betters_18 hl (by decide) rfl (fun ls hl => ?_)
  refine lv_iload hx hb dX0_betters_20 (lv_at hl 0 rfl) ?_
  refine lv_istore (lv' := [(5, .int r_5), (4, .int r_5), (3, .int x3_1), (0, .ref (ad 0)), (1, .ref (ad (wo a1))), (2, .int a2)]) hx hb dX0_betters_22 hl (by decide) rfl (fun ls hl => ?_)
  refine lv_aload_n hx hb dX0_betters_24 rfl (lv_at hl 3 rfl) ?_
  refine lv_iload_n hx hb dX0_betters_25 rfl (lv_at hl 2 rfl) ?_
  refine cp_betterChoice X P dX0_betters_26 (fun F_8 H locs eF_8 P _ => ?_)
  replace hw := hw F_8 eF_8
  refine lv_iconst (v := 0) hx hb dX0_betters_29 (by decide) ?_
  refine lv_istore (lv' := [(6, .int 0), (5, .int r_5), (4, .int r_5), (3, .int x3_1), (0, .ref (ad 0)), (1, .ref (ad (wo a1))), (2, .int a2)]) hx hb dX0_betters_30 hl (by decide) rfl (fun ls hl => ?_)
  obtain ⟨n_28, hw⟩ := hw
  refine kwc_betters_L32 X hr _ _ _ _ _ _ _   hka1 ?_ n_28 _ _ _ _ _ _ _ P (lv_sub hl [4, 5, 6, 3, 2, 1, 0] rfl) hw
  · intro F_22 Ar_23 x5_24 H locs ls P hl hw
    refine lv_aload_n hx hb dX0_betters_96 rfl (lv_at hl 1 rfl) ?_
    refine c_wg_choice X P hka1 dX0_betters_97 ?_
    refine lv_iload_n hx hb dX0_betters_100 rfl (lv_at hl 2 rfl) ?_
    refine lv_iload_n hx hb dX0_betters_101 rfl (lv_at hl 3 rfl) ?_
    refine lv_i2b hx hb dX0_betters_102 rfl ?_
    refine c_bast X P (c_warr P hka1) hw.1 dX0_betters_103 (fun Ar_25 H locs eAr_25 P _ => ?_)
    replace hw := hw.2
    replace hw := hw Ar_25 eAr_25
    refine lv_goto (tgt := 120) hx hb dX0_betters_104 (by decide) ?_
    refine lv_aload_n hx hb dX0_betters_120 rfl (lv_at hl 0 rfl) ?_
    refine lv_iload hx hb dX0_betters_121 (lv_at hl 4 rfl) ?_
    refine lv_iload hx hb dX0_betters_123 (lv_at hl 5 rfl) ?_
    refine lv_isub hx hb dX0_betters_125 ?_
    refine cp_betterBy X P dX0_betters_126 (fun F_26 H locs eF_26 P _ => ?_)
    replace hw := hw F_26 eF_26
    refine lv_aload_n hx hb dX0_betters_129 rfl (lv_at hl 0 rfl) ?_
    refine cg_betterBy X P dX0_betters_130 ?_
    refine lv_if_le (tgt := 140) hx hb dX0_betters_133 (by decide) (fun c_27 => ?_) (fun c_27 => ?_)
    · replace hw := hw.1 c_27
      refine lv_iconst (v := 0) hx hb dX0_betters_140 (by decide) ?_
      exact c_zret X P hr (Or.inl rfl) hw dX0_betters_141
    · replace hw := hw.2 c_27
      refine lv_iconst (v := 1) hx hb dX0_betters_136 (by decide) ?_
      refine lv_goto (tgt := 141) hx hb dX0_betters_137 (by decide) ?_
      exact c_zret X P hr (Or.inr rfl) hw dX0_betters_141
theorem cwc_betters {Q : Int32 → tF → tA → Prop} {a1 : Nat} {a2 : Int32} {Z : State → Prop} {A : Nat → Prop} {cells slots : Nat} {H : Heap} {locs : List Loc} {F : tF} {Ar : tA} (X : cCx p s m args meth c cc nL RX0 D G) (P : cP D A G ad s.heap Kd U T zz F Ar H locs) (hA : ∀ q, s.heap.size ≤ q → A q) (hw : wc_betters Kd T F Ar a1 a2 Q) (hR : 203 + 1 ≤ R.frames ∧ 8 + (9 + 11) + 4675 ≤ R.locals) (hC : cells ≤ R.cells ∧ slots ≤ R.slots) (hls : ls.size = nL) (hst : (rest.map fun v => v.category).sum ≤ 8) (hdg : decode cc pc = .ok (.invokevirtual 271, 3)) (kk : ∀ (r : Int32) (F1 : tF) (A1 : tA) (H1 : Heap) (locs1 : List Loc), Q r F1 A1 → cP D A G ad s.heap Kd U T zz F1 A1 H1 locs1 → W p l e R s m args below meth c H1 locs1 cells slots Z (F0 m (pc + 3) ls (.int r :: rest))) : W p l e R s m args below meth c H locs cells slots Z (F0 m pc ls (.int a2 :: .ref (ad (wo a1)) :: .ref (ad 0) :: rest)) := by
  obtain ⟨hx, hb, hml, hown, hts, hK, hlk, hN⟩ := id X
  exact va_calli (vw_runV (C := RX0) (n := 2) (As := [.ref (ad (wo a1)), .int a2]) (rest := rest) ⟨hx, hb, hml, hown, hts⟩ (twc_betters l D G ad Kd U T zz F Ar a1 a2 H.size Q hw) q1113 q1115 qs29 q64 q1116 rfl rfl (by decide +kernel) hR (c_prev X P) rfl rfl hls rfl (lv_room hst) hdg hC) P.2.2.1 (fun q _ h => P.regA hA q h) (fun q h => P.regA hA q h) (fun r u t H1 locs1 ht hvm hp hB _ _ hS => kk r u.1 u.2 H1 locs1 hp (c_afterA P ht hB hS))
-- restless
def wc_restless_L2 (Kd : tK) (T : tT) (y1_1 : Nat) (Q : Int32 → tF → tA → Prop) : Nat → tF → tA → Int32 → Prop
  | 0, _, _, _ => False
  | f2 + 1, F, Ar, y2_1 =>
    (((F (wa y1_1)) ≤ y2_1 → Q (-1) F Ar) ∧ (¬ (F (wa y1_1)) ≤ y2_1 → wc_betters Kd T F Ar y1_1 y2_1 (fun r_3 F_4 Ar_5 => ((r_3 = 0 → ((wc_restless_L2 Kd T y1_1 Q f2) F_4 Ar_5 (y2_1 + 1))) ∧ (¬ r_3 = 0 → Q y2_1 F_4 Ar_5)))))
set_option maxHeartbeats 4000000 in
theorem kwc_restless_L2 {Q : Int32 → tF → tA → Prop} (X : cCx p s m args meth c cX0_restless 3 RX0 D G) (hr : meth.sig.returnType = (some .int)) (Kd : tK) (T : tT) (y1_1 : Nat) (hky1_1 : Kd y1_1 ≠ none) : ∀ (n : Nat) (F : tF) (Ar : tA) (y2_1 : Int32) (H : Heap) (locs : List Loc) (ls : Array Slot), cP D (cReg G ad Kd U zz s.heap.size) G ad s.heap Kd U T zz F Ar H locs → lv_has ls 3 [(0, .ref (ad 0)), (1, .ref (ad (wo y1_1))), (2, .int y2_1)] → wc_restless_L2 Kd T y1_1 Q n F Ar y2_1 → W p l e ({ frames := 204, cells := 0, slots := 0, locals := 4703 }) s m args below meth c H locs 0 0 (MQ below (cQi D G ad Kd U T zz s.heap.size Q) args s 0 0 (cReg G ad Kd U zz s.heap.size)) (F0 m 2 ls []) := by
  obtain ⟨hx, hb, hml, hown, hts, -, hlk, -⟩ := id X
  have S : CallFix p m c _ _ s args lw_all RX0 := ⟨hx, hb, hml, hown, hts⟩
  intro n
  induction n with
  | zero =>
    intro F Ar y2_1 H locs ls P hl hw
    exact hw.elim
  | succ n ih =>
    intro F Ar y2_1 H locs ls P hl hw
    have hKh2_1 := ih
    refine lv_iload_n hx hb dX0_restless_2 rfl (lv_at hl 2 rfl) ?_
    refine lv_aload_n hx hb dX0_restless_3 rfl (lv_at hl 1 rfl) ?_
    refine c_wg_carts X P hky1_1 dX0_restless_4 ?_
    refine lv_icmp_ge (tgt := 27) hx hb dX0_restless_7 (by decide) (fun c_2 => ?_) (fun c_2 => ?_)
    · replace hw := hw.1 c_2
      refine lv_iconst (v := (-1)) hx hb dX0_restless_27 (by decide) ?_
      exact c_iret X P hr hw dX0_restless_28
    · replace hw := hw.2 c_2
      refine lv_aload_n hx hb dX0_restless_10 rfl (lv_at hl 0 rfl) ?_
      refine lv_aload_n hx hb dX0_restless_11 rfl (lv_at hl 1 rfl) ?_
      refine lv_iload_n hx hb dX0_restless_12 rfl (lv_at hl 2 rfl) ?_
      refine cwc_betters X P (fun _ h => Or.inr h) hw ⟨Nat.le_of_ble_eq_true rfl, Nat.le_of_ble_eq_true rfl⟩ ⟨Nat.zero_le _, Nat.zero_le _⟩ hl.1 (Nat.le_of_ble_eq_true rfl) dX0_restless_13 (fun r_3 F_4 Ar_5 H locs hw P => ?_)
      refine lv_if_eq (tgt := 21) hx hb dX0_restless_16 (by decide) (fun c_6 => ?_) (fun c_6 => ?_)
      · replace hw := hw.1 c_6
        refine lv_iinc (v := (y2_1 + 1)) (lv' := [(2, .int (y2_1 + 1)), (0, .ref (ad 0)), (1, .ref (ad (wo y1_1)))]) hx hb dX0_restless_21 hl (k := 2) rfl rfl (by decide) rfl (fun ls hl => ?_)
        refine lv_goto (tgt := 2) hx hb dX0_restless_24 (by decide) ?_
        exact hKh2_1 _ _ _ _ _ _ P (lv_sub hl [1, 2, 0] rfl) hw
      · replace hw := hw.2 c_6
        refine lv_iload_n hx hb dX0_restless_19 rfl (lv_at hl 2 rfl) ?_
        exact c_iret X P hr hw dX0_restless_20
def wc_restless (Kd : tK) (T : tT) (F : tF) (Ar : tA) (a1 : Nat) (Q : Int32 → tF → tA → Prop) : Prop :=
  Kd a1 ≠ none ∧ (∃ n2, wc_restless_L2 Kd T a1 Q n2 F Ar 0)
set_option maxHeartbeats 4000000 in
theorem twc_restless (l : Launch) (D : va_G) (G ad : Nat → Nat) (Kd : tK) (U : tU) (T : tT) (zz : Int32) (F : tF) (Ar : tA) (a1 : Nat) (sz : Nat) (Q : Int32 → tF → tA → Prop) (hw : wc_restless Kd T F Ar a1 Q) : Met l yX0_restless (ws_ yX0_restless cX0_restless 3 (some .int)) ({ frames := 204, cells := 0, slots := 0, locals := 4703 }) (va_Pc [.ref (ad 0), .ref (ad (wo a1))] (cPb D G ad Kd U T zz F Ar sz)) (cQi D G ad Kd U T zz sz Q) 0 0 (cReg G ad Kd U zz sz) := by
  refine c_entry (by decide) (Nat.le_of_ble_eq_true rfl) ?_
  intro p e s m args below meth c ls X hr hsz P hl
  subst hsz
  have X : cCx p s m args meth c cX0_restless 3 RX0 D G := X
  obtain ⟨hx, hb, hml, hown, hts, -, hlk, -⟩ := id X
  have S : CallFix p m c _ _ s _ lw_all RX0 := ⟨hx, hb, hml, hown, hts⟩
  have hl : lv_has ls 3 [(0, .ref (ad 0)), (1, .ref (ad (wo a1)))] := hl
  have hka1 := hw.1
  replace hw := hw.2
  refine lv_iconst (v := 0) hx hb dX0_restless_0 (by decide) ?_
  refine lv_istore_n (lv' := [(2, .int 0), (0, .ref (ad 0)), (1, .ref (ad (wo a1)))]) hx hb dX0_restless_1 rfl hl (by decide) rfl (fun ls hl => ?_)
  obtain ⟨n_7, hw⟩ := hw
  refine kwc_restless_L2 X hr _ _ _   hka1  n_7 _ _ _ _ _ _ P (lv_sub hl [1, 2, 0] rfl) hw
theorem cwc_restless {Q : Int32 → tF → tA → Prop} {a1 : Nat} {Z : State → Prop} {A : Nat → Prop} {cells slots : Nat} {H : Heap} {locs : List Loc} {F : tF} {Ar : tA} (X : cCx p s m args meth c cc nL RX0 D G) (P : cP D A G ad s.heap Kd U T zz F Ar H locs) (hA : ∀ q, s.heap.size ≤ q → A q) (hw : wc_restless Kd T F Ar a1 Q) (hR : 204 + 1 ≤ R.frames ∧ 8 + (3 + 11) + 4703 ≤ R.locals) (hC : cells ≤ R.cells ∧ slots ≤ R.slots) (hls : ls.size = nL) (hst : (rest.map fun v => v.category).sum ≤ 8) (hdg : decode cc pc = .ok (.invokevirtual 277, 3)) (kk : ∀ (r : Int32) (F1 : tF) (A1 : tA) (H1 : Heap) (locs1 : List Loc), Q r F1 A1 → cP D A G ad s.heap Kd U T zz F1 A1 H1 locs1 → W p l e R s m args below meth c H1 locs1 cells slots Z (F0 m (pc + 3) ls (.int r :: rest))) : W p l e R s m args below meth c H locs cells slots Z (F0 m pc ls (.ref (ad (wo a1)) :: .ref (ad 0) :: rest)) := by
  obtain ⟨hx, hb, hml, hown, hts, hK, hlk, hN⟩ := id X
  exact va_calli (va_runV (C := RX0) (As := [.ref (ad (wo a1))]) (rest := rest) ⟨hx, hb, hml, hown, hts⟩ (twc_restless l D G ad Kd U T zz F Ar a1 H.size Q hw) (cwV 1 hts (lw_V q1109 q1111 qs28 q64 q1112) rfl rfl rfl (by decide +kernel) hR) (c_prev X P) rfl rfl hls rfl (lv_room hst) hdg hC) P.2.2.1 (fun q _ h => P.regA hA q h) (fun q h => P.regA hA q h) (fun r u t H1 locs1 ht hvm hp hB _ _ hS => kk r u.1 u.2 H1 locs1 hp (c_afterA P ht hB hS))
-- judge
def wc_judge (Kd : tK) (T : tT) (F : tF) (Ar : tA) (a1 : Int32) (a2 : Int32) (Q : Int32 → tF → tA → Prop) : Prop :=
  wc_isWay Kd T F Ar a1 (fun r_1 => ((¬ r_1 = 0 → wc_in (a2.toInt64) 0 2 (fun r_3 => ((¬ r_3 = 0 → (¬ a1 < 0 ∧ a1 < F 32) ∧ wc_restless Kd T F Ar (a1.toNatClampNeg) (fun r_6 F_7 Ar_8 => ((¬ r_6 = (-1) → ((¬ a2 = 0 → ((¬ a2 = 1 → Q (F_7 17) F_7 Ar_8) ∧ (a2 = 1 → Q (F_7 16) F_7 Ar_8))) ∧ (a2 = 0 → Q r_6 F_7 Ar_8))) ∧ (r_6 = (-1) → Q (-1) F_7 Ar_8)))) ∧ (r_3 = 0 → Q (-7) F Ar)))) ∧ (r_1 = 0 → Q (-5) F Ar)))
set_option maxHeartbeats 4000000 in
theorem twc_judge (l : Launch) (D : va_G) (G ad : Nat → Nat) (Kd : tK) (U : tU) (T : tT) (zz : Int32) (F : tF) (Ar : tA) (a1 : Int32) (a2 : Int32) (sz : Nat) (Q : Int32 → tF → tA → Prop) (hw : wc_judge Kd T F Ar a1 a2 Q) : Met l yX0_judge (ws_ yX0_judge cX0_judge 4 (some .int)) ({ frames := 205, cells := 0, slots := 0, locals := 4725 }) (va_Pc [.ref (ad 0), .int a1, .int a2] (cPb D G ad Kd U T zz F Ar sz)) (cQi D G ad Kd U T zz sz Q) 0 0 (cReg G ad Kd U zz sz) := by
  refine c_entry (by decide) (Nat.le_of_ble_eq_true rfl) ?_
  intro p e s m args below meth c ls X hr hsz P hl
  subst hsz
  have X : cCx p s m args meth c cX0_judge 4 RX0 D G := X
  obtain ⟨hx, hb, hml, hown, hts, -, hlk, -⟩ := id X
  have S : CallFix p m c _ _ s _ lw_all RX0 := ⟨hx, hb, hml, hown, hts⟩
  have hl : lv_has ls 4 [(0, .ref (ad 0)), (1, .int a1), (2, .int a2)] := hl
  refine lv_aload_n hx hb dX0_judge_0 rfl (lv_at hl 0 rfl) ?_
  refine lv_iload_n hx hb dX0_judge_1 rfl (lv_at hl 1 rfl) ?_
  refine cwc_isWay X P (fun _ h => Or.inr h) hw ⟨Nat.le_of_ble_eq_true rfl, Nat.le_of_ble_eq_true rfl⟩ ⟨Nat.zero_le _, Nat.zero_le _⟩ hl.1 (Nat.le_of_ble_eq_true rfl) dX0_judge_2 (fun r_1 hw => ?_)
  refine lv_if_ne (tgt := 11) hx hb dX0_judge_5 (by decide) (fun c_2 => ?_) (fun c_2 => ?_)
  · replace hw := hw.1 c_2
    refine lv_iload_n hx hb dX0_judge_11 rfl (lv_at hl 2 rfl) ?_
    refine lv_i2l hx hb dX0_judge_12 rfl ?_
    refine lv_lconst (v := 0) hx hb dX0_judge_13 (by decide) ?_
    refine lv_ldc2 (v := 2) hx hb hown (hts _ q1108) dX0_judge_14 ?_
    refine cwc_in S hw ⟨Nat.le_of_ble_eq_true rfl, Nat.le_of_ble_eq_true rfl⟩ ⟨Nat.zero_le _, Nat.zero_le _⟩ hl.1 (Nat.le_of_ble_eq_true rfl) dX0_judge_17 (fun r_3 hw => ?_)
    refine lv_if_ne (tgt := 26) hx hb dX0_judge_20 (by decide) (fun c_4 => ?_) (fun c_4 => ?_)
    · replace hw := hw.1 c_4
      refine lv_aload_n hx hb dX0_judge_26 rfl (lv_at hl 0 rfl) ?_
      refine lv_aload_n hx hb dX0_judge_27 rfl (lv_at hl 0 rfl) ?_
      refine cg_ways X P dX0_judge_28 ?_
      refine lv_iload_n hx hb dX0_judge_31 rfl (lv_at hl 1 rfl) ?_
      refine c_lget X P hw.1.1 hw.1.2 ⟨Nat.le_of_ble_eq_true rfl, Nat.le_of_ble_eq_true rfl⟩ hl.1 (Nat.le_of_ble_eq_true rfl) ⟨Nat.zero_le _, Nat.zero_le _⟩ dX0_judge_32 (fun hk_5 => ?_)
      replace hw := hw.2
      refine c_castW X P hk_5 dX0_judge_35 ?_
      refine cwc_restless X P (fun _ h => Or.inr h) hw ⟨Nat.le_of_ble_eq_true rfl, Nat.le_of_ble_eq_true rfl⟩ ⟨Nat.zero_le _, Nat.zero_le _⟩ hl.1 (Nat.le_of_ble_eq_true rfl) dX0_judge_38 (fun r_6 F_7 Ar_8 H locs hw P => ?_)
      refine lv_istore_n (lv' := [(3, .int r_6), (0, .ref (ad 0)), (1, .int a1), (2, .int a2)]) hx hb dX0_judge_41 rfl hl (by decide) rfl (fun ls hl => ?_)
      refine lv_iload_n hx hb dX0_judge_42 rfl (lv_at hl 0 rfl) ?_
      refine lv_iconst (v := (-1)) hx hb dX0_judge_43 (by decide) ?_
      refine lv_icmp_ne (tgt := 51) hx hb dX0_judge_44 (by decide) (fun c_9 => ?_) (fun c_9 => ?_)
      · replace hw := hw.1 c_9
        refine lv_iload_n hx hb dX0_judge_51 rfl (lv_at hl 3 rfl) ?_
        refine lv_if_ne (tgt := 59) hx hb dX0_judge_52 (by decide) (fun c_10 => ?_) (fun c_10 => ?_)
        · replace hw := hw.1 c_10
          refine lv_iload_n hx hb dX0_judge_59 rfl (lv_at hl 3 rfl) ?_
          refine lv_iconst (v := 1) hx hb dX0_judge_60 (by decide) ?_
          refine lv_icmp_ne (tgt := 71) hx hb dX0_judge_61 (by decide) (fun c_11 => ?_) (fun c_11 => ?_)
          · replace hw := hw.1 c_11
            refine lv_aload_n hx hb dX0_judge_71 rfl (lv_at hl 1 rfl) ?_
            refine cg_betterBy X P dX0_judge_72 ?_
            exact c_iret X P hr hw dX0_judge_75
          · replace hw := hw.2 c_11
            refine lv_aload_n hx hb dX0_judge_64 rfl (lv_at hl 1 rfl) ?_
            refine cg_betterChoice X P dX0_judge_65 ?_
            refine lv_goto (tgt := 75) hx hb dX0_judge_68 (by decide) ?_
            exact c_iret X P hr hw dX0_judge_75
        · replace hw := hw.2 c_10
          refine lv_iload_n hx hb dX0_judge_55 rfl (lv_at hl 0 rfl) ?_
          refine lv_goto (tgt := 75) hx hb dX0_judge_56 (by decide) ?_
          exact c_iret X P hr hw dX0_judge_75
      · replace hw := hw.2 c_9
        refine lv_iconst (v := (-1)) hx hb dX0_judge_47 (by decide) ?_
        refine lv_goto (tgt := 75) hx hb dX0_judge_48 (by decide) ?_
        exact c_iret X P hr hw dX0_judge_75
    · replace hw := hw.2 c_4
      refine lv_bipush (v := (-7)) hx hb dX0_judge_23 (by decide) ?_
      exact c_iret X P hr hw dX0_judge_25
  · replace hw := hw.2 c_2
    refine lv_bipush (v := (-5)) hx hb dX0_judge_8 (by decide) ?_
    exact c_iret X P hr hw dX0_judge_10
-- moves
def wc_moves_L2 (Kd : tK) (T : tT) (y1_1 : Nat) (y2_1 : Int32) (Q : Int32 → tF → tA → Prop) : Nat → tF → tA → Int32 → Prop
  | 0, _, _, _ => False
  | f2 + 1, F, Ar, y3_1 =>
    ((y2_1 ≤ y3_1 → Q y2_1 F Ar) ∧ (¬ y2_1 ≤ y3_1 → wc_restless Kd T F Ar y1_1 (fun r_3 F_4 Ar_5 => ((¬ r_3 = (-1) → vp_in r_3 16 ∧ ∀ Ar_7 : tA, Ar_7 = aset Ar_5 (wa y1_1) r_3.toNatClampNeg (vp_nar .byte ((F_4 16).toInt8.toInt32)) → ((wc_moves_L2 Kd T y1_1 y2_1 Q f2) F_4 Ar_7 (y3_1 + 1))) ∧ (r_3 = (-1) → Q y3_1 F_4 Ar_5)))))
set_option maxHeartbeats 4000000 in
theorem kwc_moves_L2 {Q : Int32 → tF → tA → Prop} (X : cCx p s m args meth c cX0_moves 5 RX0 D G) (hr : meth.sig.returnType = (some .int)) (Kd : tK) (T : tT) (y1_1 : Nat) (y2_1 : Int32) (hky1_1 : Kd y1_1 ≠ none) : ∀ (n : Nat) (F : tF) (Ar : tA) (y3_1 : Int32) (H : Heap) (locs : List Loc) (ls : Array Slot), cP D (cReg G ad Kd U zz s.heap.size) G ad s.heap Kd U T zz F Ar H locs → lv_has ls 5 [(0, .ref (ad 0)), (1, .ref (ad (wo y1_1))), (2, .int y2_1), (3, .int y3_1)] → wc_moves_L2 Kd T y1_1 y2_1 Q n F Ar y3_1 → W p l e ({ frames := 205, cells := 0, slots := 0, locals := 4725 }) s m args below meth c H locs 0 0 (MQ below (cQi D G ad Kd U T zz s.heap.size Q) args s 0 0 (cReg G ad Kd U zz s.heap.size)) (F0 m 2 ls []) := by
  obtain ⟨hx, hb, hml, hown, hts, -, hlk, -⟩ := id X
  have S : CallFix p m c _ _ s args lw_all RX0 := ⟨hx, hb, hml, hown, hts⟩
  intro n
  induction n with
  | zero =>
    intro F Ar y3_1 H locs ls P hl hw
    exact hw.elim
  | succ n ih =>
    intro F Ar y3_1 H locs ls P hl hw
    have hKh2_1 := ih
    refine lv_iload_n hx hb dX0_moves_2 rfl (lv_at hl 3 rfl) ?_
    refine lv_iload_n hx hb dX0_moves_3 rfl (lv_at hl 2 rfl) ?_
    refine lv_icmp_ge (tgt := 40) hx hb dX0_moves_4 (by decide) (fun c_2 => ?_) (fun c_2 => ?_)
    · replace hw := hw.1 c_2
      refine lv_iload_n hx hb dX0_moves_40 rfl (lv_at hl 2 rfl) ?_
      exact c_iret X P hr hw dX0_moves_41
    · replace hw := hw.2 c_2
      refine lv_aload_n hx hb dX0_moves_7 rfl (lv_at hl 0 rfl) ?_
      refine lv_aload_n hx hb dX0_moves_8 rfl (lv_at hl 1 rfl) ?_
      refine cwc_restless X P (fun _ h => Or.inr h) hw ⟨Nat.le_of_ble_eq_true rfl, Nat.le_of_ble_eq_true rfl⟩ ⟨Nat.zero_le _, Nat.zero_le _⟩ hl.1 (Nat.le_of_ble_eq_true rfl) dX0_moves_9 (fun r_3 F_4 Ar_5 H locs hw P => ?_)
      refine lv_istore (lv' := [(4, .int r_3), (0, .ref (ad 0)), (1, .ref (ad (wo y1_1))), (2, .int y2_1), (3, .int y3_1)]) hx hb dX0_moves_12 hl (by decide) rfl (fun ls hl => ?_)
      refine lv_iload hx hb dX0_moves_14 (lv_at hl 0 rfl) ?_
      refine lv_iconst (v := (-1)) hx hb dX0_moves_16 (by decide) ?_
      refine lv_icmp_ne (tgt := 22) hx hb dX0_moves_17 (by decide) (fun c_6 => ?_) (fun c_6 => ?_)
      · replace hw := hw.1 c_6
        refine lv_aload_n hx hb dX0_moves_22 rfl (lv_at hl 2 rfl) ?_
        refine c_wg_choice X P hky1_1 dX0_moves_23 ?_
        refine lv_iload hx hb dX0_moves_26 (lv_at hl 0 rfl) ?_
        refine lv_aload_n hx hb dX0_moves_28 rfl (lv_at hl 1 rfl) ?_
        refine cg_betterChoice X P dX0_moves_29 ?_
        refine lv_i2b hx hb dX0_moves_32 rfl ?_
        refine c_bast X P (c_warr P hky1_1) hw.1 dX0_moves_33 (fun Ar_7 H locs eAr_7 P _ => ?_)
        replace hw := hw.2
        replace hw := hw Ar_7 eAr_7
        refine lv_iinc (v := (y3_1 + 1)) (lv' := [(3, .int (y3_1 + 1)), (4, .int r_3), (0, .ref (ad 0)), (1, .ref (ad (wo y1_1))), (2, .int y2_1)]) hx hb dX0_moves_34 hl (k := 4) rfl rfl (by decide) rfl (fun ls hl => ?_)
        refine lv_goto (tgt := 2) hx hb dX0_moves_37 (by decide) ?_
        exact hKh2_1 _ _ _ _ _ _ P (lv_sub hl [2, 3, 4, 0] rfl) hw
      · replace hw := hw.2 c_6
        refine lv_iload_n hx hb dX0_moves_20 rfl (lv_at hl 4 rfl) ?_
        exact c_iret X P hr hw dX0_moves_21
def wc_moves (Kd : tK) (T : tT) (F : tF) (Ar : tA) (a1 : Nat) (a2 : Int32) (Q : Int32 → tF → tA → Prop) : Prop :=
  Kd a1 ≠ none ∧ (∃ n2, wc_moves_L2 Kd T a1 a2 Q n2 F Ar 0)
set_option maxHeartbeats 4000000 in
theorem twc_moves (l : Launch) (D : va_G) (G ad : Nat → Nat) (Kd : tK) (U : tU) (T : tT) (zz : Int32) (F : tF) (Ar : tA) (a1 : Nat) (a2 : Int32) (sz : Nat) (Q : Int32 → tF → tA → Prop) (hw : wc_moves Kd T F Ar a1 a2 Q) : Met l yX0_moves (ws_ yX0_moves cX0_moves 5 (some .int)) ({ frames := 205, cells := 0, slots := 0, locals := 4725 }) (va_Pc [.ref (ad 0), .ref (ad (wo a1)), .int a2] (cPb D G ad Kd U T zz F Ar sz)) (cQi D G ad Kd U T zz sz Q) 0 0 (cReg G ad Kd U zz sz) := by
  refine c_entry (by decide) (Nat.le_of_ble_eq_true rfl) ?_
  intro p e s m args below meth c ls X hr hsz P hl
  subst hsz
  have X : cCx p s m args meth c cX0_moves 5 RX0 D G := X
  obtain ⟨hx, hb, hml, hown, hts, -, hlk, -⟩ := id X
  have S : CallFix p m c _ _ s _ lw_all RX0 := ⟨hx, hb, hml, hown, hts⟩
  have hl : lv_has ls 5 [(0, .ref (ad 0)), (1, .ref (ad (wo a1))), (2, .int a2)] := hl
  have hka1 := hw.1
  replace hw := hw.2
  refine lv_iconst (v := 0) hx hb dX0_moves_0 (by decide) ?_
  refine lv_istore_n (lv' := [(3, .int 0), (0, .ref (ad 0)), (1, .ref (ad (wo a1))), (2, .int a2)]) hx hb dX0_moves_1 rfl hl (by decide) rfl (fun ls hl => ?_)
  obtain ⟨n_8, hw⟩ := hw
  refine kwc_moves_L2 X hr _ _ _ _   hka1  n_8 _ _ _ _ _ _ P (lv_sub hl [1, 2, 3, 0] rfl) hw
theorem cwc_moves {Q : Int32 → tF → tA → Prop} {a1 : Nat} {a2 : Int32} {Z : State → Prop} {A : Nat → Prop} {cells slots : Nat} {H : Heap} {locs : List Loc} {F : tF} {Ar : tA} (X : cCx p s m args meth c cc nL RX0 D G) (P : cP D A G ad s.heap Kd U T zz F Ar H locs) (hA : ∀ q, s.heap.size ≤ q → A q) (hw : wc_moves Kd T F Ar a1 a2 Q) (hR : 205 + 1 ≤ R.frames ∧ 8 + (5 + 11) + 4725 ≤ R.locals) (hC : cells ≤ R.cells ∧ slots ≤ R.slots) (hls : ls.size = nL) (hst : (rest.map fun v => v.category).sum ≤ 8) (hdg : decode cc pc = .ok (.invokevirtual 283, 3)) (kk : ∀ (r : Int32) (F1 : tF) (A1 : tA) (H1 : Heap) (locs1 : List Loc), Q r F1 A1 → cP D A G ad s.heap Kd U T zz F1 A1 H1 locs1 → W p l e R s m args below meth c H1 locs1 cells slots Z (F0 m (pc + 3) ls (.int r :: rest))) : W p l e R s m args below meth c H locs cells slots Z (F0 m pc ls (.int a2 :: .ref (ad (wo a1)) :: .ref (ad 0) :: rest)) := by
  obtain ⟨hx, hb, hml, hown, hts, hK, hlk, hN⟩ := id X
  exact va_calli (va_runV (C := RX0) (As := [.ref (ad (wo a1)), .int a2]) (rest := rest) ⟨hx, hb, hml, hown, hts⟩ (twc_moves l D G ad Kd U T zz F Ar a1 a2 H.size Q hw) (cwV 2 hts (lw_V q1122 q1124 qs30 q64 q1125) rfl rfl rfl (by decide +kernel) hR) (c_prev X P) rfl rfl hls rfl (lv_room hst) hdg hC) P.2.2.1 (fun q _ h => P.regA hA q h) (fun q h => P.regA hA q h) (fun r u t H1 locs1 ht hvm hp hB _ _ hS => kk r u.1 u.2 H1 locs1 hp (c_afterA P ht hB hS))
-- rest
def wc_rest (Kd : tK) (T : tT) (F : tF) (Ar : tA) (a1 : Int32) (a2 : Int32) (Q : Int32 → tF → tA → Prop) : Prop :=
  wc_isWay Kd T F Ar a1 (fun r_1 => ((¬ r_1 = 0 → wc_in (a2.toInt64) 0 8 (fun r_3 => ((¬ r_3 = 0 → (¬ a1 < 0 ∧ a1 < F 32) ∧ wc_moves Kd T F Ar (a1.toNatClampNeg) a2 (fun r_6 F_7 Ar_8 => Q r_6 F_7 Ar_8)) ∧ (r_3 = 0 → Q (-7) F Ar)))) ∧ (r_1 = 0 → Q (-5) F Ar)))
set_option maxHeartbeats 4000000 in
theorem twc_rest (l : Launch) (D : va_G) (G ad : Nat → Nat) (Kd : tK) (U : tU) (T : tT) (zz : Int32) (F : tF) (Ar : tA) (a1 : Int32) (a2 : Int32) (sz : Nat) (Q : Int32 → tF → tA → Prop) (hw : wc_rest Kd T F Ar a1 a2 Q) : Met l yX0_rest (ws_ yX0_rest cX0_rest 3 (some .int)) ({ frames := 206, cells := 0, slots := 0, locals := 4749 }) (va_Pc [.ref (ad 0), .int a1, .int a2] (cPb D G ad Kd U T zz F Ar sz)) (cQi D G ad Kd U T zz sz Q) 0 0 (cReg G ad Kd U zz sz) := by
  refine c_entry (by decide) (Nat.le_of_ble_eq_true rfl) ?_
  intro p e s m args below meth c ls X hr hsz P hl
  subst hsz
  have X : cCx p s m args meth c cX0_rest 3 RX0 D G := X
  obtain ⟨hx, hb, hml, hown, hts, -, hlk, -⟩ := id X
  have S : CallFix p m c _ _ s _ lw_all RX0 := ⟨hx, hb, hml, hown, hts⟩
  have hl : lv_has ls 3 [(0, .ref (ad 0)), (1, .int a1), (2, .int a2)] := hl
  refine lv_aload_n hx hb dX0_rest_0 rfl (lv_at hl 0 rfl) ?_
  refine lv_iload_n hx hb dX0_rest_1 rfl (lv_at hl 1 rfl) ?_
  refine cwc_isWay X P (fun _ h => Or.inr h) hw ⟨Nat.le_of_ble_eq_true rfl, Nat.le_of_ble_eq_true rfl⟩ ⟨Nat.zero_le _, Nat.zero_le _⟩ hl.1 (Nat.le_of_ble_eq_true rfl) dX0_rest_2 (fun r_1 hw => ?_)
  refine lv_if_ne (tgt := 11) hx hb dX0_rest_5 (by decide) (fun c_2 => ?_) (fun c_2 => ?_)
  · replace hw := hw.1 c_2
    refine lv_iload_n hx hb dX0_rest_11 rfl (lv_at hl 2 rfl) ?_
    refine lv_i2l hx hb dX0_rest_12 rfl ?_
    refine lv_lconst (v := 0) hx hb dX0_rest_13 (by decide) ?_
    refine lv_ldc2 (v := 8) hx hb hown (hts _ q1121) dX0_rest_14 ?_
    refine cwc_in S hw ⟨Nat.le_of_ble_eq_true rfl, Nat.le_of_ble_eq_true rfl⟩ ⟨Nat.zero_le _, Nat.zero_le _⟩ hl.1 (Nat.le_of_ble_eq_true rfl) dX0_rest_17 (fun r_3 hw => ?_)
    refine lv_if_ne (tgt := 26) hx hb dX0_rest_20 (by decide) (fun c_4 => ?_) (fun c_4 => ?_)
    · replace hw := hw.1 c_4
      refine lv_aload_n hx hb dX0_rest_26 rfl (lv_at hl 0 rfl) ?_
      refine lv_aload_n hx hb dX0_rest_27 rfl (lv_at hl 0 rfl) ?_
      refine cg_ways X P dX0_rest_28 ?_
      refine lv_iload_n hx hb dX0_rest_31 rfl (lv_at hl 1 rfl) ?_
      refine c_lget X P hw.1.1 hw.1.2 ⟨Nat.le_of_ble_eq_true rfl, Nat.le_of_ble_eq_true rfl⟩ hl.1 (Nat.le_of_ble_eq_true rfl) ⟨Nat.zero_le _, Nat.zero_le _⟩ dX0_rest_32 (fun hk_5 => ?_)
      replace hw := hw.2
      refine c_castW X P hk_5 dX0_rest_35 ?_
      refine lv_iload_n hx hb dX0_rest_38 rfl (lv_at hl 2 rfl) ?_
      refine cwc_moves X P (fun _ h => Or.inr h) hw ⟨Nat.le_of_ble_eq_true rfl, Nat.le_of_ble_eq_true rfl⟩ ⟨Nat.zero_le _, Nat.zero_le _⟩ hl.1 (Nat.le_of_ble_eq_true rfl) dX0_rest_39 (fun r_6 F_7 Ar_8 H locs hw P => ?_)
      exact c_iret X P hr hw dX0_rest_42
    · replace hw := hw.2 c_4
      refine lv_bipush (v := (-7)) hx hb dX0_rest_23 (by decide) ?_
      exact c_iret X P hr hw dX0_rest_25
  · replace hw := hw.2 c_2
    refine lv_bipush (v := (-5)) hx hb dX0_rest_8 (by decide) ?_
    exact c_iret X P hr hw dX0_rest_10
-- beside
def wc_beside (Kd : tK) (T : tT) (F : tF) (Ar : tA) (a1 : Int32) (a2 : Int32) (a3 : Int32) (a4 : Int32) (Q : Int64 → tF → tA → Prop) : Prop :=
  wc_isWay Kd T F Ar a1 (fun r_1 => ((r_1 = 0 → Q (-4611686018427387904) F Ar) ∧ (¬ r_1 = 0 → wc_isGate a2 (fun r_3 => ((r_3 = 0 → Q (-4611686018427387904) F Ar) ∧ (¬ r_3 = 0 → wc_isMinute a3 (fun r_5 => ((r_5 = 0 → Q (-4611686018427387904) F Ar) ∧ (¬ r_5 = 0 → wc_in (a4.toInt64) 0 9 (fun r_7 => ((¬ r_7 = 0 → (¬ a1 < 0 ∧ a1 < F 32) ∧ wc_runs Kd T F Ar (a1.toNatClampNeg) (fun F_11 Ar_12 => wc_whole Kd T F_11 Ar_12 (a1.toNatClampNeg) (fun r_13 F_14 Ar_15 => vp_in ((24 * a2) + a3) 48 ∧ ∀ x8_16 : Int32, x8_16 = (Ar_15 1 ((24 * a2) + a3).toNatClampNeg) → vp_in ((24 * a2) + a3) 48 ∧ ∀ Ar_17 : tA, Ar_17 = aset Ar_15 1 ((24 * a2) + a3).toNatClampNeg a4 → wc_runs Kd T F_14 Ar_17 (a1.toNatClampNeg) (fun F_19 Ar_20 => wc_whole Kd T F_19 Ar_20 (a1.toNatClampNeg) (fun r_21 F_22 Ar_23 => ∀ x9_24 : Int64, x9_24 = (r_21 - r_13) → vp_in ((24 * a2) + a3) 48 ∧ ∀ Ar_25 : tA, Ar_25 = aset Ar_23 1 ((24 * a2) + a3).toNatClampNeg x8_16 → Q x9_24 F_22 Ar_25))))) ∧ (r_7 = 0 → Q (-4611686018427387904) F Ar))))))))))))
set_option maxHeartbeats 4000000 in
theorem twc_beside (l : Launch) (D : va_G) (G ad : Nat → Nat) (Kd : tK) (U : tU) (T : tT) (zz : Int32) (F : tF) (Ar : tA) (a1 : Int32) (a2 : Int32) (a3 : Int32) (a4 : Int32) (sz : Nat) (Q : Int64 → tF → tA → Prop) (hw : wc_beside Kd T F Ar a1 a2 a3 a4 Q) : Met l yX0_beside (wsW_ yX0_beside cX0_beside 12 (some .long) [(79, 109, 125, 0), (125, 127, 125, 0)]) ({ frames := 204, cells := 0, slots := 0, locals := 4699 }) (va_Pc [.ref (ad 0), .int a1, .int a2, .int a3, .int a4] (cPb D G ad Kd U T zz F Ar sz)) (cQl D G ad Kd U T zz sz Q) 0 0 (cReg G ad Kd U zz sz) := by
  refine c_entryW (by decide) (Nat.le_of_ble_eq_true rfl) ?_
  intro p e s m args below meth c ls X hr hsz P hl
  subst hsz
  have X : cCx p s m args meth c cX0_beside 12 RX0 D G := X
  obtain ⟨hx, hb, hml, hown, hts, -, hlk, -⟩ := id X
  have S : CallFix p m c _ _ s _ lw_all RX0 := ⟨hx, hb, hml, hown, hts⟩
  have hl : lv_has ls 12 [(0, .ref (ad 0)), (1, .int a1), (2, .int a2), (3, .int a3), (4, .int a4)] := hl
  refine lv_aload_n hx hb dX0_beside_0 rfl (lv_at hl 0 rfl) ?_
  refine lv_iload_n hx hb dX0_beside_1 rfl (lv_at hl 1 rfl) ?_
  refine cwc_isWay X P (fun _ h => Or.inr h) hw ⟨Nat.le_of_ble_eq_true rfl, Nat.le_of_ble_eq_true rfl⟩ ⟨Nat.zero_le _, Nat.zero_le _⟩ hl.1 (Nat.le_of_ble_eq_true rfl) dX0_beside_2 (fun r_1 hw => ?_)
  refine lv_if_eq (tgt := 35) hx hb dX0_beside_5 (by decide) (fun c_2 => ?_) (fun c_2 => ?_)
  · replace hw := hw.1 c_2
    refine lv_ldc2 (v := (-4611686018427387904)) hx hb hown (hts _ q1099) dX0_beside_35 ?_
    exact c_lret X P hr hw dX0_beside_38
  · replace hw := hw.2 c_2
    refine lv_iload_n hx hb dX0_beside_8 rfl (lv_at hl 2 rfl) ?_
    refine cwc_isGate S hw ⟨Nat.le_of_ble_eq_true rfl, Nat.le_of_ble_eq_true rfl⟩ ⟨Nat.zero_le _, Nat.zero_le _⟩ hl.1 (Nat.le_of_ble_eq_true rfl) dX0_beside_9 (fun r_3 hw => ?_)
    refine lv_if_eq (tgt := 35) hx hb dX0_beside_12 (by decide) (fun c_4 => ?_) (fun c_4 => ?_)
    · replace hw := hw.1 c_4
      refine lv_ldc2 (v := (-4611686018427387904)) hx hb hown (hts _ q1099) dX0_beside_35 ?_
      exact c_lret X P hr hw dX0_beside_38
    · replace hw := hw.2 c_4
      refine lv_iload_n hx hb dX0_beside_15 rfl (lv_at hl 3 rfl) ?_
      refine cwc_isMinute S hw ⟨Nat.le_of_ble_eq_true rfl, Nat.le_of_ble_eq_true rfl⟩ ⟨Nat.zero_le _, Nat.zero_le _⟩ hl.1 (Nat.le_of_ble_eq_true rfl) dX0_beside_16 (fun r_5 hw => ?_)
      refine lv_if_eq (tgt := 35) hx hb dX0_beside_19 (by decide) (fun c_6 => ?_) (fun c_6 => ?_)
      · replace hw := hw.1 c_6
        refine lv_ldc2 (v := (-4611686018427387904)) hx hb hown (hts _ q1099) dX0_beside_35 ?_
        exact c_lret X P hr hw dX0_beside_38
      · replace hw := hw.2 c_6
        refine lv_iload hx hb dX0_beside_22 (lv_at hl 4 rfl) ?_
        refine lv_i2l hx hb dX0_beside_24 rfl ?_
        refine lv_lconst (v := 0) hx hb dX0_beside_25 (by decide) ?_
        refine lv_ldc2 (v := 9) hx hb hown (hts _ q759) dX0_beside_26 ?_
        refine cwc_in S hw ⟨Nat.le_of_ble_eq_true rfl, Nat.le_of_ble_eq_true rfl⟩ ⟨Nat.zero_le _, Nat.zero_le _⟩ hl.1 (Nat.le_of_ble_eq_true rfl) dX0_beside_29 (fun r_7 hw => ?_)
        refine lv_if_ne (tgt := 39) hx hb dX0_beside_32 (by decide) (fun c_8 => ?_) (fun c_8 => ?_)
        · replace hw := hw.1 c_8
          refine lv_aload_n hx hb dX0_beside_39 rfl (lv_at hl 0 rfl) ?_
          refine cg_ways X P dX0_beside_40 ?_
          refine lv_iload_n hx hb dX0_beside_43 rfl (lv_at hl 1 rfl) ?_
          refine c_lget X P hw.1.1 hw.1.2 ⟨Nat.le_of_ble_eq_true rfl, Nat.le_of_ble_eq_true rfl⟩ hl.1 (Nat.le_of_ble_eq_true rfl) ⟨Nat.zero_le _, Nat.zero_le _⟩ dX0_beside_44 (fun hk_9 => ?_)
          replace hw := hw.2
          refine c_castW X P hk_9 dX0_beside_47 ?_
          refine lv_astore (lv' := [(5, .ref (ad (wo (a1.toNatClampNeg)))), (0, .ref (ad 0)), (1, .int a1), (2, .int a2), (3, .int a3), (4, .int a4)]) hx hb dX0_beside_50 hl (by decide) rfl (fun ls hl => ?_)
          refine lv_aload_n hx hb dX0_beside_52 rfl (lv_at hl 1 rfl) ?_
          refine lv_aload hx hb dX0_beside_53 (lv_at hl 0 rfl) ?_
          refine cwc_runs X P (fun _ h => Or.inr h) hw ⟨Nat.le_of_ble_eq_true rfl, Nat.le_of_ble_eq_true rfl⟩ ⟨Nat.zero_le _, Nat.zero_le _⟩ hl.1 (Nat.le_of_ble_eq_true rfl) dX0_beside_55 (fun F_11 Ar_12 H locs hw P => ?_)
          refine lv_aload_n hx hb dX0_beside_58 rfl (lv_at hl 1 rfl) ?_
          refine lv_aload hx hb dX0_beside_59 (lv_at hl 0 rfl) ?_
          refine cwc_whole X P (fun _ h => Or.inr h) hw ⟨Nat.le_of_ble_eq_true rfl, Nat.le_of_ble_eq_true rfl⟩ ⟨Nat.zero_le _, Nat.zero_le _⟩ hl.1 (Nat.le_of_ble_eq_true rfl) dX0_beside_61 (fun r_13 F_14 Ar_15 H locs hw P => ?_)
          refine lv_lstore (lv' := [(6, .long r_13), (5, .ref (ad (wo (a1.toNatClampNeg)))), (0, .ref (ad 0)), (1, .int a1), (2, .int a2), (3, .int a3), (4, .int a4)]) hx hb dX0_beside_64 hl (by decide) rfl (fun ls hl => ?_)
          refine lv_aload_n hx hb dX0_beside_66 rfl (lv_at hl 2 rfl) ?_
          refine cg_rate X P dX0_beside_67 ?_
          refine lv_bipush (v := 24) hx hb dX0_beside_70 (by decide) ?_
          refine lv_iload_n hx hb dX0_beside_72 rfl (lv_at hl 4 rfl) ?_
          refine lv_imul hx hb dX0_beside_73 ?_
          refine lv_iload_n hx hb dX0_beside_74 rfl (lv_at hl 5 rfl) ?_
          refine lv_iadd hx hb dX0_beside_75 ?_
          refine c_iald X P (rfl : cArr Kd 1 = some (0, 48)) hw.1 dX0_beside_76 ?_
          replace hw := hw.2
          refine lv_topi (fun x8_16 ex8_16 => ?_)
          replace hw := hw x8_16 ex8_16
          refine lv_istore (lv' := [(8, .int x8_16), (6, .long r_13), (5, .ref (ad (wo (a1.toNatClampNeg)))), (0, .ref (ad 0)), (1, .int a1), (2, .int a2), (3, .int a3), (4, .int a4)]) hx hb dX0_beside_77 hl (by decide) rfl (fun ls hl => ?_)
          refine lv_aload_n hx hb dX0_beside_79 rfl (lv_at hl 3 rfl) ?_
          refine cg_rate X P dX0_beside_80 ?_
          refine lv_bipush (v := 24) hx hb dX0_beside_83 (by decide) ?_
          refine lv_iload_n hx hb dX0_beside_85 rfl (lv_at hl 5 rfl) ?_
          refine lv_imul hx hb dX0_beside_86 ?_
          refine lv_iload_n hx hb dX0_beside_87 rfl (lv_at hl 6 rfl) ?_
          refine lv_iadd hx hb dX0_beside_88 ?_
          refine lv_iload hx hb dX0_beside_89 (lv_at hl 7 rfl) ?_
          refine c_iast X P (rfl : cArr Kd 1 = some (0, 48)) hw.1 dX0_beside_91 (fun Ar_17 H locs eAr_17 P _ => ?_)
          replace hw := hw.2
          replace hw := hw Ar_17 eAr_17
          refine lv_aload_n hx hb dX0_beside_92 rfl (lv_at hl 3 rfl) ?_
          refine lv_aload hx hb dX0_beside_93 (lv_at hl 2 rfl) ?_
          refine cwc_runs X P (fun _ h => Or.inr h) hw ⟨Nat.le_of_ble_eq_true rfl, Nat.le_of_ble_eq_true rfl⟩ ⟨Nat.zero_le _, Nat.zero_le _⟩ hl.1 (Nat.le_of_ble_eq_true rfl) dX0_beside_95 (fun F_19 Ar_20 H locs hw P => ?_)
          refine lv_aload_n hx hb dX0_beside_98 rfl (lv_at hl 3 rfl) ?_
          refine lv_aload hx hb dX0_beside_99 (lv_at hl 2 rfl) ?_
          refine cwc_whole X P (fun _ h => Or.inr h) hw ⟨Nat.le_of_ble_eq_true rfl, Nat.le_of_ble_eq_true rfl⟩ ⟨Nat.zero_le _, Nat.zero_le _⟩ hl.1 (Nat.le_of_ble_eq_true rfl) dX0_beside_101 (fun r_21 F_22 Ar_23 H locs hw P => ?_)
          refine lv_lload hx hb dX0_beside_104 (lv_at hl 1 rfl) ?_
          refine lv_lsub hx hb dX0_beside_106 ?_
          refine lv_topl (fun x9_24 ex9_24 => ?_)
          replace hw := hw x9_24 ex9_24
          refine lv_lstore (lv' := [(9, .long x9_24), (8, .int x8_16), (6, .long r_13), (5, .ref (ad (wo (a1.toNatClampNeg)))), (0, .ref (ad 0)), (1, .int a1), (2, .int a2), (3, .int a3), (4, .int a4)]) hx hb dX0_beside_107 hl (by decide) rfl (fun ls hl => ?_)
          refine lv_aload_n hx hb dX0_beside_109 rfl (lv_at hl 4 rfl) ?_
          refine cg_rate X P dX0_beside_110 ?_
          refine lv_bipush (v := 24) hx hb dX0_beside_113 (by decide) ?_
          refine lv_iload_n hx hb dX0_beside_115 rfl (lv_at hl 6 rfl) ?_
          refine lv_imul hx hb dX0_beside_116 ?_
          refine lv_iload_n hx hb dX0_beside_117 rfl (lv_at hl 7 rfl) ?_
          refine lv_iadd hx hb dX0_beside_118 ?_
          refine lv_iload hx hb dX0_beside_119 (lv_at hl 1 rfl) ?_
          refine c_iast X P (rfl : cArr Kd 1 = some (0, 48)) hw.1 dX0_beside_121 (fun Ar_25 H locs eAr_25 P _ => ?_)
          replace hw := hw.2
          replace hw := hw Ar_25 eAr_25
          refine lv_lload hx hb dX0_beside_122 (lv_at hl 0 rfl) ?_
          exact c_lret X P hr hw dX0_beside_124
        · replace hw := hw.2 c_8
          refine lv_ldc2 (v := (-4611686018427387904)) hx hb hown (hts _ q1099) dX0_beside_35 ?_
          exact c_lret X P hr hw dX0_beside_38
theorem cwc_beside {Q : Int64 → tF → tA → Prop} {a1 : Int32} {a2 : Int32} {a3 : Int32} {a4 : Int32} {Z : State → Prop} {A : Nat → Prop} {cells slots : Nat} {H : Heap} {locs : List Loc} {F : tF} {Ar : tA} (X : cCx p s m args meth c cc nL RX0 D G) (P : cP D A G ad s.heap Kd U T zz F Ar H locs) (hA : ∀ q, s.heap.size ≤ q → A q) (hw : wc_beside Kd T F Ar a1 a2 a3 a4 Q) (hR : 204 + 1 ≤ R.frames ∧ 8 + (12 + 11) + 4699 ≤ R.locals) (hC : cells ≤ R.cells ∧ slots ≤ R.slots) (hls : ls.size = nL) (hst : (rest.map fun v => v.category).sum ≤ 8) (hdg : decode cc pc = .ok (.invokevirtual 295, 3)) (kk : ∀ (r : Int64) (F1 : tF) (A1 : tA) (H1 : Heap) (locs1 : List Loc), Q r F1 A1 → cP D A G ad s.heap Kd U T zz F1 A1 H1 locs1 → W p l e R s m args below meth c H1 locs1 cells slots Z (F0 m (pc + 3) ls (.long r :: rest))) : W p l e R s m args below meth c H locs cells slots Z (F0 m pc ls (.int a4 :: .int a3 :: .int a2 :: .int a1 :: .ref (ad 0) :: rest)) := by
  obtain ⟨hx, hb, hml, hown, hts, hK, hlk, hN⟩ := id X
  exact va_calll (vw_runV (C := RX0) (n := 4) (As := [.int a1, .int a2, .int a3, .int a4]) (rest := rest) ⟨hx, hb, hml, hown, hts⟩ (twc_beside l D G ad Kd U T zz F Ar a1 a2 a3 a4 H.size Q hw) q1158 q1150 q1151 q64 q1152 rfl rfl (by decide +kernel) hR (c_prev X P) rfl rfl hls rfl (lv_room hst) hdg hC) P.2.2.1 (fun q _ h => P.regA hA q h) (fun q h => P.regA hA q h) (fun r u t H1 locs1 ht hvm hp hB _ _ hS => kk r u.1 u.2 H1 locs1 hp (c_afterA P ht hB hS))
end CC1
