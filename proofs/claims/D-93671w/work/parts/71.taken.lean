/-! ===== taken ===== -/
set_option maxRecDepth 100000
def cPk (D : va_G) (G ad : Nat → Nat) (Kd : tK) (U : tU) (T : tT) (zz : Int32) (F : tF) (Ar : tA) (sz : Nat) (V : State) : Prop := cPz D G ad Kd U T zz F Ar sz V ∧ zSh (cReg G ad Kd U zz sz) V V.heap ∧ cNc V
theorem ck_blind {D : va_G} {G ad : Nat → Nat} {Kd : tK} {U : tU} {T : tT} {zz : Int32} {F : tF} {Ar : tA} {sz : Nat} {as : List Value} : FrameBlind (va_Pc as (cPk D G ad Kd U T zz F Ar sz)) := fun a V g mk q => by
  obtain ⟨q0, q1, q2, q3⟩ := q
  exact ⟨q0, (cz_blind a V g mk ⟨q0, q1⟩).2, q2.moved (Vm.Alike.refl V.vm), q3.moved (Vm.Alike.refl V.vm)⟩
abbrev tkH : List (Nat × Nat × Nat × Nat) := [(15, 104, 128, 343), (105, 127, 128, 343)]
abbrev tkR : Room := { frames := 8, cells := 2, slots := 8, locals := 160 }
def tkC (F : tF) (Ar : tA) (i kind : Int32) (Q : Int32 → tF → tA → Prop) : Prop := vp_in i 16 ∧ ∃ k : Nat, k < 128 ∧ Ar 6 i.toNatClampNeg = nI k ∧ (kind = 6 → Q (nI k) F Ar) ∧ (¬ kind = 6 → Q (-13) F Ar)
def tkW (Kd : tK) (F : tF) (Ar : tA) (i kind : Int32) (Q : Int32 → tF → tA → Prop) : Prop := ¬ i - 16 < 0 ∧ i - 16 < F 32 ∧ (kind = 6 → Q (-13) F Ar) ∧ (¬ kind = 6 → ∃ k : Nat, k < 6 ∧ kind = nI k ∧ ∀ kd, Kd (i - 16).toNatClampNeg = some kd → (undV kd k = 0 → Q (-13) F Ar) ∧ (¬ undV kd k = 0 → Q (F (wo (i - 16).toNatClampNeg)) F Ar))
def wc_taken (Kd : tK) (T : tT) (F : tF) (Ar : tA) (i kind : Int32) (Q : Int32 → tF → tA → Prop) : Prop :=
  wc_in kind.toInt64 0 6 (fun r => (r = 0 → Q (-2) F Ar) ∧ (¬ r = 0 → wc_in i.toInt64 0 23 (fun r => (r = 0 → Q (-12) F Ar) ∧ (¬ r = 0 →
    ((16 : Int32) ≤ i → wc_isWay Kd T F Ar (i - 16) (fun r => (r = 0 → Q (-11) F Ar) ∧ (¬ r = 0 → tkW Kd F Ar i kind Q))) ∧
    (¬ (16 : Int32) ≤ i → wc_isCart Kd T F Ar i (fun r => (r = 0 → Q (-11) F Ar) ∧ (¬ r = 0 → tkC F Ar i kind Q)))))))
section TAK
variable {p : Program} {l : Launch} {e : Env} {s : State} {m : MethodId} {args : Array Value} {below : List Frame} {meth : Method} {c : Code} {H : Heap} {locs : List Loc} {cells slots : Nat}
variable {ls : Array Slot} {D : va_G} {G ad : Nat → Nat} {Kd : tK} {U : tU} {T : tT} {zz : Int32} {F : tF} {Ar : tA} {Q : Int32 → tF → tA → Prop}
/-- an Odd comes into the handler, and its code is the answer -/
theorem tk_catch {pc a : Nat} {code : Int32} {st : List Value} (X : cCx p s m args meth c cX0_taken 5 RX0 D G) (hr : meth.sig.returnType = some .int) (hh0 : c.exceptionTable.toList.map (fun h => (h.startPc, h.endPc, h.handlerPc, h.catchType)) = tkH) (hf : hFind tkH pc = some (128, 343)) (P : cP D (cReg G ad Kd U zz s.heap.size) G ad s.heap Kd U T zz F Ar H locs) (hO : va_P D vcl [(a, .inr (15, oFs code))] H) (hq : Q code F Ar) (hc : cells ≤ 2) (hs : slots ≤ 8) (hl : lv_has ls 5 []) :
    xW p l e tkR s m args below meth c H locs cells slots (MQ below (cQi D G ad Kd U T zz s.heap.size Q) args s 2 8 (cReg G ad Kd U zz s.heap.size)) (F0 m pc ls st) a := by
  obtain ⟨hx, hb, hml, hown, hts, hK, hlk, hN⟩ := id X
  refine c_caught X hh0 hf hO ?_
  refine lv_astore_n (lv' := [(3, .ref a)]) hx hb dX0_taken_128 rfl hl (by decide) rfl (fun ls hl => ?_)
  refine lv_aload_n hx hb dX0_taken_129 rfl (lv_at hl 0 rfl) ?_
  refine c_oget X hO dX0_taken_130 ?_
  refine W.widen (k := 2) (n := 8) hc hs ?_
  exact c_iret X P hr hq dX0_taken_133
theorem c_slB {sl th : Nat} {C : String} (hK : va_K D vcl (cTys G) s) (hN : cNw s) (hNc : cNc s) (P : cP D (cReg G ad Kd U zz s.heap.size) G ad s.heap Kd U T zz F Ar H locs) (hz : zTh (cReg G ad Kd U zz s.heap.size) s s.heap) (hP : va_P D vcl [(sl, .inr (14, [.ref th]))] H) (hO : va_O C th nA s H) {V : State} (hV : V.heap = H) (hW : s.WarmedH V.vm) : slB D sl th C H.size V :=
  ⟨by rw [hV], by rw [hV]; exact hP, va_K.moved hW.alike (hK.sub [] rfl), cNw.warm hW hN, hNc.moved hW.alike, (c_zTh P hz hV hW).narrow (fun q h => Or.inr h), by rw [hV]; exact hO.moved hW.alike⟩
set_option maxHeartbeats 4000000 in
/-- a thing goes into a Slot -/
theorem tk_init {sl th : Nat} {a1 a2 : Int32} {Z : State → Prop} (X : cCx p s m args meth c cX0_taken 5 RX0 D G) (P : cP D (cReg G ad Kd U zz s.heap.size) G ad s.heap Kd U T zz F Ar s.heap locs) (hsl : sl = s.heap.size) (hP : va_P D vcl [(sl, .inr (14, [.null]))] H) (hz : H.size = s.heap.size + 1) (ho : ∀ q : Nat, q < s.heap.size → H[q]? = s.heap[q]?) (hl : lv_has ls 5 [(0, .ref (ad 0)), (1, .int a1), (2, .int a2)])
    (kk : ∀ (H1 : Heap) (locs1 : List Loc) (ls : Array Slot), va_P D vcl [(sl, .inr (14, [.ref th]))] H1 → cP D (cReg G ad Kd U zz s.heap.size) G ad s.heap Kd U T zz F Ar H1 locs1 → (∀ q : Nat, q < s.heap.size → H1[q]? = s.heap[q]?) → lv_has ls 5 [(3, .ref sl), (0, .ref (ad 0)), (1, .int a1), (2, .int a2)] → W p l e tkR s m args below meth c H1 locs1 1 1 Z (F0 m 94 ls [])) :
    W p l e tkR s m args below meth c H locs 1 1 Z (F0 m 90 ls [.ref th, .ref sl, .ref sl]) := by
  obtain ⟨hx, hb, hml, hown, hts, hK, hlk, hN⟩ := id X
  have P1 : cP D (cReg G ad Kd U zz s.heap.size) G ad s.heap Kd U T zz F Ar H locs := P.keepL (by omega) ho P.2.2.1.2.2
  refine va_callv (va_runI (As := [.ref th]) (rest := [.ref sl]) ⟨hx, hb, hml, hown, hts⟩ (tX15_init l D sl th) (cwI 1 hts (lw_meth q1287) rfl rfl rfl (hts _ q97) (hts _ q1285) (hts _ q1286) rfl (by decide +kernel) ⟨Nat.le_of_ble_eq_true rfl, Nat.le_of_ble_eq_true rfl⟩) ⟨ni_blind, fun V hV hW => ⟨rfl, by rw [hV]; exact hP, va_K.moved hW.alike (hK.sub [] rfl)⟩⟩ rfl rfl hl.1 rfl (lv_room (Nat.le_of_ble_eq_true rfl)) dX0_taken_90 ⟨Nat.le_of_ble_eq_true rfl, Nat.le_of_ble_eq_true rfl⟩) P1.2.2.1 (fun q _ h => Or.inr (by rw [h, hsl]; exact Nat.le_refl _)) (fun q h => Or.inr (by rw [h, hsl]; exact Nat.le_refl _)) (fun _ t H1 locs1 ht hvm _ hB hz1 hkp hS => ?_)
  have ho1 : ∀ q : Nat, q < s.heap.size → H1[q]? = s.heap[q]? := fun q hq => (hkp q (by omega) (fun h => by rw [h, hsl] at hq; omega)).trans (ho q hq)
  rw [ht] at hB
  refine lv_astore_n (lv' := [(3, .ref sl), (0, .ref (ad 0)), (1, .int a1), (2, .int a2)]) hx hb dX0_taken_93 rfl hl (by decide) rfl (fun ls hl => ?_)
  exact kk H1 locs1 ls hB (P.keepL (by omega) ho1 hS.2.2) ho1 hl
set_option maxHeartbeats 4000000 in
theorem tk_cart {i kind : Int32} (X : cCx p s m args meth c cX0_taken 5 RX0 D G) (hr : meth.sig.returnType = some .int) (hh0 : c.exceptionTable.toList.map (fun h => (h.startPc, h.endPc, h.handlerPc, h.catchType)) = tkH) (hz : zTh (cReg G ad Kd U zz s.heap.size) s s.heap) (hSh : zSh (cReg G ad Kd U zz s.heap.size) s s.heap) (hNc : cNc s) (P : cP D (cReg G ad Kd U zz s.heap.size) G ad s.heap Kd U T zz F Ar s.heap locs) (hi16 : ¬ (16 : Int32) ≤ i) (hw : tkC F Ar i kind Q) (hl : lv_has ls 5 [(0, .ref (ad 0)), (1, .int i), (2, .int kind)]) :
    W p l e tkR s m args below meth c s.heap locs 0 0 (MQ below (cQi D G ad Kd U T zz s.heap.size Q) args s 2 8 (cReg G ad Kd U zz s.heap.size)) (F0 m 56 ls []) := by
  obtain ⟨hx, hb, hml, hown, hts, hK, hlk, hN⟩ := id X
  obtain ⟨hin, k, hk, ek, hq6, hq⟩ := hw
  obtain ⟨tc, bt, s1, s2, s3⟩ := id hSh
  refine x_new (ci := 14) (fs := [.null]) (C := RX15) (T := TX15) (N := 1) hx hb hts in_X15 tyX15 tyX15_ok hown (hts _ q1265) (hts _ q1266) (hts _ q97) hK rfl (fun j hj => by rcases (show j = 0 by omega) with rfl; rfl) (Nat.le_of_ble_eq_true rfl) (Nat.le_of_ble_eq_true rfl) dX0_taken_56 (fun H1 hU1 hz1 ho1 => ?_)
  have P1 : cP D (cReg G ad Kd U zz s.heap.size) G ad s.heap Kd U T zz F Ar H1 locs := P.keepL (by omega) ho1 P.2.2.1.2.2
  refine lv_dup hx hb dX0_taken_59 rfl ?_
  refine lv_iload_n hx hb dX0_taken_60 rfl (lv_at hl 1 rfl) ?_
  refine lv_bipush (v := 16) hx hb dX0_taken_61 (by decide) ?_
  refine lv_icmp_ge (tgt := 79) hx hb dX0_taken_63 (by decide) (fun h9 => absurd h9 hi16) (fun _ => ?_)
  refine lv_aload_n hx hb dX0_taken_66 rfl (lv_at hl 0 rfl) ?_
  refine cg_sortOf X P1 dX0_taken_67 ?_
  refine lv_iload_n hx hb dX0_taken_70 rfl (lv_at hl 1 rfl) ?_
  refine c_iald X P1 (k := 6) (n := 16) rfl hin dX0_taken_71 ?_
  rw [ek]
  refine lv_i2s hx hb dX0_taken_72 rfl ?_
  have e16 : ∀ k : Nat, k < 128 → (nI k).toInt16.toInt32 = nI k := by decide
  rw [e16 k hk]
  have keep : ∀ q : Nat, q < s.heap.size → ¬ cReg G ad Kd U zz s.heap.size q → H1[q]? = s.heap[q]? := fun q h _ => ho1 q h
  refine r_call (W.runS (As := [.int (nI k)]) (rest := [.ref s.heap.size, .ref s.heap.size]) ⟨hx, hb, hml, hown, hts⟩ (tJ18_valueOf l tc bt k hk) (va_cwS 1 hts (lw_S q1267 q1268 q99 q1269) rfl rfl rfl (by decide +kernel) ⟨Nat.le_of_ble_eq_true rfl, Nat.le_of_ble_eq_true rfl⟩) ⟨shB_blind, fun V hV hW => ⟨rfl, by unfold shB; rw [hV]; exact ⟨((s1.kept keep).moved hW.alike).narrow (fun q h => h.elim), ((s2.kept keep).moved hW.alike).narrow (fun q h => h.elim)⟩⟩⟩ rfl rfl hl.1 rfl (lv_room (Nat.le_of_ble_eq_true rfl)) dX0_taken_73 ⟨Nat.le_of_ble_eq_true rfl, Nat.le_of_ble_eq_true rfl⟩) ?_
  refine lv_goto (tgt := 90) hx hb dX0_taken_76 (by decide) ?_
  obtain ⟨o1, o2⟩ := s3 (128 + k) (by omega)
  refine tk_init (H := H1) (th := bt (128 + k)) X P rfl hU1 hz1 ho1 hl (fun H2 locs2 ls hP2 P2 ho2 hl => ?_)
  have keep2 : ∀ q : Nat, q < s.heap.size → ¬ cReg G ad Kd U zz s.heap.size q → H2[q]? = s.heap[q]? := fun q h _ => ho2 q h
  have hO2 : va_O "java/lang/Short" (bt (128 + k)) nA s H2 := (o1.kept keep2).narrow (fun q h => h.elim)
  have ec : vb_c (128 + k) = nI k := by
    unfold vb_c
    have : Int32.ofNat (128 + k) = nI 128 + nI k := (nI_add 128 k).symm
    rw [this, show (128 : Int32) = nI 128 from rfl, Int32.add_comm, Int32.add_sub_cancel]
  rw [ec] at o2
  have hF2 : va_OF "java/lang/Short" "value" "S" (.int (nI k)) (bt (128 + k)) nA s H2 := (o2.kept keep2).narrow (fun q h => h.elim)
  refine lv_iload_n hx hb dX0_taken_94 rfl (lv_at hl 3 rfl) ?_
  refine lv_bipush (v := 6) hx hb dX0_taken_95 (by decide) ?_
  refine lv_icmp_ne (tgt := 105) hx hb dX0_taken_97 (by decide) (fun c6 => ?_) (fun c6 => ?_)
  · refine lv_aload_n hx hb dX0_taken_105 rfl (lv_at hl 0 rfl) ?_
    refine c_xo P2 (x_runV (C := RX15) (As := []) (rest := []) ⟨hx, hb, hml, hown, hts⟩ (tX15_wayS l D s.heap.size (bt (128 + k)) H2.size) (cwV 0 hts (lw_V q1304 q1305 q1306 q97 q1307) rfl rfl rfl (by decide +kernel) ⟨Nat.le_of_ble_eq_true rfl, Nat.le_of_ble_eq_true rfl⟩) ⟨slB_blind, va_recv hK hP2 (ci := 14) (q0 := 0) rfl rfl, fun V hV hW => ⟨rfl, c_slB hK hN hNc P2 hz hP2 hO2 hV hW⟩⟩ rfl rfl hl.1 rfl (lv_room (Nat.le_of_ble_eq_true rfl)) dX0_taken_106 ⟨Nat.le_of_ble_eq_true rfl, Nat.le_of_ble_eq_true rfl⟩) (fun _ a H3 locs3 _ P3 hOd => ?_) (fun h => h.elim)
    exact tk_catch X hr hh0 rfl P3 hOd (hq c6) (by decide) (by decide) (lv_sub hl [] rfl)
  · refine lv_aload_n hx hb dX0_taken_100 rfl (lv_at hl 0 rfl) ?_
    refine c_xo P2 (x_runV (C := RX15) (As := []) (rest := []) ⟨hx, hb, hml, hown, hts⟩ (tX15_number l D s.heap.size (bt (128 + k)) (nI k) H2.size ?_) (cwV 0 hts (lw_V q1293 q1294 q1295 q97 q1296) rfl rfl rfl (by decide +kernel) ⟨Nat.le_of_ble_eq_true rfl, Nat.le_of_ble_eq_true rfl⟩) ⟨slN_blind, va_recv hK hP2 (ci := 14) (q0 := 0) rfl rfl, fun V hV hW => ⟨rfl, c_slB hK hN hNc P2 hz hP2 hO2 hV hW, by rw [hV]; exact hF2.moved hW.alike⟩⟩ rfl rfl hl.1 rfl (lv_room (Nat.le_of_ble_eq_true rfl)) dX0_taken_101 ⟨Nat.le_of_ble_eq_true rfl, Nat.le_of_ble_eq_true rfl⟩) (fun h => absurd trivial h) (fun _ locs3 P3 => ?_)
    · have e17 : ∀ k : Nat, k < 128 → narrow .short (.int (nI k)) = .int (nI k) := by
        intro k hk
        show Value.int _ = Value.int _
        congr 1
        exact e16 k hk
      exact e17 k hk
    · refine W.widen (k := 2) (n := 8) (by decide) (by decide) ?_
      exact c_iret X P3 hr (hq6 c6) dX0_taken_104
set_option maxHeartbeats 4000000 in
theorem tk_way {i kind : Int32} (X : cCx p s m args meth c cX0_taken 5 RX0 D G) (hr : meth.sig.returnType = some .int) (hh0 : c.exceptionTable.toList.map (fun h => (h.startPc, h.endPc, h.handlerPc, h.catchType)) = tkH) (hz : zTh (cReg G ad Kd U zz s.heap.size) s s.heap) (hNc : cNc s) (P : cP D (cReg G ad Kd U zz s.heap.size) G ad s.heap Kd U T zz F Ar s.heap locs) (hi16 : (16 : Int32) ≤ i) (hw : tkW Kd F Ar i kind Q) (hl : lv_has ls 5 [(0, .ref (ad 0)), (1, .int i), (2, .int kind)]) :
    W p l e tkR s m args below meth c s.heap locs 0 0 (MQ below (cQi D G ad Kd U T zz s.heap.size Q) args s 2 8 (cReg G ad Kd U zz s.heap.size)) (F0 m 56 ls []) := by
  obtain ⟨hx, hb, hml, hown, hts, hK, hlk, hN⟩ := id X
  obtain ⟨hi0, hi32, hq6, hq⟩ := hw
  refine x_new (ci := 14) (fs := [.null]) (C := RX15) (T := TX15) (N := 1) hx hb hts in_X15 tyX15 tyX15_ok hown (hts _ q1265) (hts _ q1266) (hts _ q97) hK rfl (fun j hj => by rcases (show j = 0 by omega) with rfl; rfl) (Nat.le_of_ble_eq_true rfl) (Nat.le_of_ble_eq_true rfl) dX0_taken_56 (fun H1 hU1 hz1 ho1 => ?_)
  have P1 : cP D (cReg G ad Kd U zz s.heap.size) G ad s.heap Kd U T zz F Ar H1 locs := P.keepL (by omega) ho1 P.2.2.1.2.2
  refine lv_dup hx hb dX0_taken_59 rfl ?_
  refine lv_iload_n hx hb dX0_taken_60 rfl (lv_at hl 1 rfl) ?_
  refine lv_bipush (v := 16) hx hb dX0_taken_61 (by decide) ?_
  refine lv_icmp_ge (tgt := 79) hx hb dX0_taken_63 (by decide) (fun _ => ?_) (fun h9 => absurd hi16 h9)
  refine lv_aload_n hx hb dX0_taken_79 rfl (lv_at hl 0 rfl) ?_
  refine cg_ways X P1 dX0_taken_80 ?_
  refine lv_iload_n hx hb dX0_taken_83 rfl (lv_at hl 1 rfl) ?_
  refine lv_bipush (v := 16) hx hb dX0_taken_84 (by decide) ?_
  refine lv_isub hx hb dX0_taken_86 ?_
  refine c_lget X P1 hi0 hi32 ⟨Nat.le_of_ble_eq_true rfl, Nat.le_of_ble_eq_true rfl⟩ hl.1 (Nat.le_of_ble_eq_true rfl) ⟨Nat.le_of_ble_eq_true rfl, Nat.le_of_ble_eq_true rfl⟩ dX0_taken_87 (fun hkn => ?_)
  generalize hwn : (i - 16).toNatClampNeg = w at hkn hq ⊢
  obtain ⟨kd, hkd, h6, h14⟩ := P.2.2.2.1.kd hkn
  refine tk_init (H := H1) (th := ad (wo w)) X P rfl hU1 hz1 ho1 hl (fun H2 locs2 ls hP2 P2 ho2 hl => ?_)
  have hO2 : va_O (cnm kd) (ad (wo w)) nA s H2 := by
    have he := cE_way (G := G) (ad := ad) (F := F) (Ar := Ar) (U := U) h14 hkd
    rcases lt6 h6 with h | h | h | h | h | h <;> subst h
    · obtain ⟨cell, h1, h2, h3⟩ := va_recv hK (gw_one P2.1 he) (ci := 2) (q0 := 0) rfl rfl
      exact ⟨cell, h1, h2, h3, id⟩
    · obtain ⟨cell, h1, h2, h3⟩ := va_recv hK (gw_one P2.1 he) (ci := 3) (q0 := 0) rfl rfl
      exact ⟨cell, h1, h2, h3, id⟩
    · obtain ⟨cell, h1, h2, h3⟩ := va_recv hK (gw_one P2.1 he) (ci := 4) (q0 := 0) rfl rfl
      exact ⟨cell, h1, h2, h3, id⟩
    · obtain ⟨cell, h1, h2, h3⟩ := va_recv hK (gw_one P2.1 he) (ci := 5) (q0 := 0) rfl rfl
      exact ⟨cell, h1, h2, h3, id⟩
    · obtain ⟨cell, h1, h2, h3⟩ := va_recv hK (gw_one P2.1 he) (ci := 6) (q0 := 0) rfl rfl
      exact ⟨cell, h1, h2, h3, id⟩
    · obtain ⟨cell, h1, h2, h3⟩ := va_recv hK (gw_one P2.1 he) (ci := 7) (q0 := 0) rfl rfl
      exact ⟨cell, h1, h2, h3, id⟩
  refine lv_iload_n hx hb dX0_taken_94 rfl (lv_at hl 3 rfl) ?_
  refine lv_bipush (v := 6) hx hb dX0_taken_95 (by decide) ?_
  refine lv_icmp_ne (tgt := 105) hx hb dX0_taken_97 (by decide) (fun c6 => ?_) (fun c6 => ?_)
  · obtain ⟨k, hk, rfl, hqk⟩ := hq c6
    obtain ⟨hq0, hq1⟩ := hqk kd hkd
    refine lv_aload_n hx hb dX0_taken_105 rfl (lv_at hl 0 rfl) ?_
    refine c_xo P2 (x_runV (C := RX15) (As := []) (rest := []) ⟨hx, hb, hml, hown, hts⟩ (tX15_way l D s.heap.size (ad (wo w)) kd H2.size h6) (cwV 0 hts (lw_V q1304 q1305 q1306 q97 q1307) rfl rfl rfl (by decide +kernel) ⟨Nat.le_of_ble_eq_true rfl, Nat.le_of_ble_eq_true rfl⟩) ⟨slB_blind, va_recv hK hP2 (ci := 14) (q0 := 0) rfl rfl, fun V hV hW => ⟨rfl, c_slB hK hN hNc P2 hz hP2 hO2 hV hW⟩⟩ rfl rfl hl.1 rfl (lv_room (Nat.le_of_ble_eq_true rfl)) dX0_taken_106 ⟨Nat.le_of_ble_eq_true rfl, Nat.le_of_ble_eq_true rfl⟩) (fun h => absurd trivial h) (fun _ locs3 P3 => ?_)
    refine lv_astore (lv' := [(4, .ref (ad (wo w))), (3, .ref s.heap.size), (0, .ref (ad 0)), (1, .int i), (2, .int (nI k))]) hx hb dX0_taken_109 hl (by decide) rfl (fun ls hl => ?_)
    refine lv_aload hx hb dX0_taken_111 (lv_at hl 0 rfl) ?_
    refine lv_iload_n hx hb dX0_taken_113 rfl (lv_at hl 4 rfl) ?_
    refine r_call (W.runS (As := [.ref (ad (wo w)), .int (nI k)]) (rest := []) ⟨hx, hb, hml, hown, hts⟩ (tX0_isUnder l D (ad (wo w)) kd k h6 hk) (va_cwS 2 hts (lw_S q1309 q1310 q64 q1311) rfl rfl rfl (by decide +kernel) ⟨Nat.le_of_ble_eq_true rfl, Nat.le_of_ble_eq_true rfl⟩) ⟨iuB_blind, fun V hV hW => ⟨rfl, by rw [hV]; exact hO2.moved hW.alike, cNw.warm hW hN, hNc.moved hW.alike⟩⟩ rfl rfl hl.1 rfl (lv_room (Nat.le_of_ble_eq_true rfl)) dX0_taken_114 ⟨Nat.le_of_ble_eq_true rfl, Nat.le_of_ble_eq_true rfl⟩) ?_
    refine lv_bipush (v := -13) hx hb dX0_taken_117 (by decide) ?_
    refine c_need X P3 hz ⟨Nat.le_of_ble_eq_true rfl, Nat.le_of_ble_eq_true rfl⟩ ⟨Nat.le_of_ble_eq_true rfl, Nat.le_of_ble_eq_true rfl⟩ hl.1 (Nat.le_of_ble_eq_true rfl) dX0_taken_119 (fun hb0 a H4 locs4 P4 hOd => ?_) (fun hb0 locs4 P4 => ?_)
    · exact tk_catch X hr hh0 rfl P4 hOd (hq0 hb0) (by decide) (by decide) (lv_sub hl [] rfl)
    · refine lv_aload hx hb dX0_taken_122 (lv_at hl 0 rfl) ?_
      refine c_wg_number X P4 hkn dX0_taken_124 ?_
      refine W.widen (k := 2) (n := 8) (by decide) (by decide) ?_
      exact c_iret X P4 hr (hq1 hb0) dX0_taken_127
  · refine lv_aload_n hx hb dX0_taken_100 rfl (lv_at hl 0 rfl) ?_
    refine c_xo P2 (x_runV (C := RX15) (As := []) (rest := []) ⟨hx, hb, hml, hown, hts⟩ (tX15_numberW l D s.heap.size (ad (wo w)) kd H2.size h6) (cwV 0 hts (lw_V q1293 q1294 q1295 q97 q1296) rfl rfl rfl (by decide +kernel) ⟨Nat.le_of_ble_eq_true rfl, Nat.le_of_ble_eq_true rfl⟩) ⟨slB_blind, va_recv hK hP2 (ci := 14) (q0 := 0) rfl rfl, fun V hV hW => ⟨rfl, c_slB hK hN hNc P2 hz hP2 hO2 hV hW⟩⟩ rfl rfl hl.1 rfl (lv_room (Nat.le_of_ble_eq_true rfl)) dX0_taken_101 ⟨Nat.le_of_ble_eq_true rfl, Nat.le_of_ble_eq_true rfl⟩) (fun _ a H3 locs3 _ P3 hOd => ?_) (fun h => h.elim)
    exact tk_catch X hr hh0 rfl P3 hOd (hq6 c6) (by decide) (by decide) (lv_sub hl [] rfl)
end TAK
set_option maxHeartbeats 4000000 in
theorem twc_taken (l : Launch) (D : va_G) (G ad : Nat → Nat) (Kd : tK) (U : tU) (T : tT) (zz : Int32) (F : tF) (Ar : tA) (a1 a2 : Int32) (sz : Nat) (Q : Int32 → tF → tA → Prop) (hw : wc_taken Kd T F Ar a1 a2 Q) :
    Met l yX0_taken (wsW_ yX0_taken cX0_taken 5 (some .int) tkH) tkR (va_Pc [.ref (ad 0), .int a1, .int a2] (cPk D G ad Kd U T zz F Ar sz)) (cQi D G ad Kd U T zz sz Q) 2 8 (cReg G ad Kd U zz sz) := by
  refine va_MetWx (cc := cX0_taken) (maxL := 5) (ret := some .int) (hh := tkH) (by decide) rfl ?_
  intro p e s m args below meth c s₁ B hml hh0 hv
  obtain ⟨rfl, ⟨hBb, hz⟩, hSh, hNc⟩ := hv
  obtain ⟨hsz, P, hK, hN⟩ := c_start hBb
  subst hsz
  have hts := atoms_spec (ws := wsW_ yX0_taken cX0_taken 5 (some .int) tkH) B.pre
  have hts : ∀ w ∈ lw_all, w.before _ s = true := fun w h => hts w (List.mem_cons_of_mem _ h)
  have hl := lv_entry [Value.ref (ad 0), Value.int a1, Value.int a2] (n := 5) (Nat.le_of_ble_eq_true rfl)
  rw [lg_entry_eq]
  generalize (lg_sl [Value.ref (ad 0), Value.int a1, Value.int a2] ++ List.replicate (5 - (lg_sl [Value.ref (ad 0), Value.int a1, Value.int a2]).length) Slot.unset).toArray = ls at hl ⊢
  have hl : lv_has ls 5 [(0, .ref (ad 0)), (1, .int a1), (2, .int a2)] := hl
  have hown : s.vm.findClass RX0 = some m.cls := findClass_of_methodNamed B.named
  have hr := B.returns
  have X : cCx p s m _ meth c cX0_taken 5 RX0 D G := ⟨B.exec, B.bytes, hml, hown, hts, hK, B.notSynchronized, hN⟩
  obtain ⟨hx, hb, -, -, -, -, hlk, -⟩ := id X
  have S : CallFix p m c _ _ s _ lw_all RX0 := ⟨hx, hb, hml, hown, hts⟩
  have hA : ∀ q, s.heap.size ≤ q → cReg G ad Kd U zz s.heap.size q := fun q h => Or.inr h
  refine lv_iload_n hx hb dX0_taken_0 rfl (lv_at hl 2 rfl) ?_
  refine lv_i2l hx hb dX0_taken_1 rfl ?_
  refine lv_lconst (v := 0) hx hb dX0_taken_2 (by decide) ?_
  refine lv_ldc2 (v := 6) hx hb hown (hts _ q1260) dX0_taken_3 ?_
  refine cwc_in S hw ⟨Nat.le_of_ble_eq_true rfl, Nat.le_of_ble_eq_true rfl⟩ ⟨Nat.le_of_ble_eq_true rfl, Nat.le_of_ble_eq_true rfl⟩ hl.1 (Nat.le_of_ble_eq_true rfl) dX0_taken_6 (fun r hw => ?_)
  refine lv_if_ne (tgt := 15) hx hb dX0_taken_9 (by decide) (fun c1 => ?_) (fun c1 => ?_)
  rotate_left
  · refine lv_bipush (v := -2) hx hb dX0_taken_12 (by decide) ?_
    refine W.widen (k := 2) (n := 8) (Nat.zero_le _) (Nat.zero_le _) ?_
    exact c_iret X P hr (hw.1 c1) dX0_taken_14
  replace hw := hw.2 c1
  refine lv_iload_n hx hb dX0_taken_15 rfl (lv_at hl 1 rfl) ?_
  refine lv_i2l hx hb dX0_taken_16 rfl ?_
  refine lv_lconst (v := 0) hx hb dX0_taken_17 (by decide) ?_
  refine lv_ldc2 (v := 23) hx hb hown (hts _ q757) dX0_taken_18 ?_
  refine cwc_in S hw ⟨Nat.le_of_ble_eq_true rfl, Nat.le_of_ble_eq_true rfl⟩ ⟨Nat.le_of_ble_eq_true rfl, Nat.le_of_ble_eq_true rfl⟩ hl.1 (Nat.le_of_ble_eq_true rfl) dX0_taken_21 (fun r hw => ?_)
  refine lv_bipush (v := -12) hx hb dX0_taken_24 (by decide) ?_
  refine c_need X P hz ⟨Nat.le_of_ble_eq_true rfl, Nat.le_of_ble_eq_true rfl⟩ ⟨Nat.le_of_ble_eq_true rfl, Nat.le_of_ble_eq_true rfl⟩ hl.1 (Nat.le_of_ble_eq_true rfl) dX0_taken_26 (fun hb0 a H1 locs1 P1 hOd => ?_) (fun hb0 locs1 P1 => ?_)
  · exact tk_catch X hr hh0 rfl P1 hOd (hw.1 hb0) (by decide) (by decide) (lv_sub hl [] rfl)
  replace hw := hw.2 hb0
  refine lv_iload_n hx hb dX0_taken_29 rfl (lv_at hl 1 rfl) ?_
  refine lv_bipush (v := 16) hx hb dX0_taken_30 (by decide) ?_
  refine lv_icmp_ge (tgt := 43) hx hb dX0_taken_32 (by decide) (fun c16 => ?_) (fun c16 => ?_)
  · replace hw := hw.1 c16
    refine lv_aload_n hx hb dX0_taken_43 rfl (lv_at hl 0 rfl) ?_
    refine lv_iload_n hx hb dX0_taken_44 rfl (lv_at hl 1 rfl) ?_
    refine lv_bipush (v := 16) hx hb dX0_taken_45 (by decide) ?_
    refine lv_isub hx hb dX0_taken_47 ?_
    refine cwc_isWay X P1 hA hw ⟨Nat.le_of_ble_eq_true rfl, Nat.le_of_ble_eq_true rfl⟩ ⟨Nat.le_of_ble_eq_true rfl, Nat.le_of_ble_eq_true rfl⟩ hl.1 (Nat.le_of_ble_eq_true rfl) dX0_taken_48 (fun r hw => ?_)
    refine lv_bipush (v := -11) hx hb dX0_taken_51 (by decide) ?_
    refine c_need X P1 hz ⟨Nat.le_of_ble_eq_true rfl, Nat.le_of_ble_eq_true rfl⟩ ⟨Nat.le_of_ble_eq_true rfl, Nat.le_of_ble_eq_true rfl⟩ hl.1 (Nat.le_of_ble_eq_true rfl) dX0_taken_53 (fun hb1 a H2 locs2 P2 hOd => ?_) (fun hb1 locs2 P2 => ?_)
    · exact tk_catch X hr hh0 rfl P2 hOd (hw.1 hb1) (by decide) (by decide) (lv_sub hl [] rfl)
    · exact tk_way X hr hh0 hz hNc P2 c16 (hw.2 hb1) hl
  · replace hw := hw.2 c16
    refine lv_aload_n hx hb dX0_taken_35 rfl (lv_at hl 0 rfl) ?_
    refine lv_iload_n hx hb dX0_taken_36 rfl (lv_at hl 1 rfl) ?_
    refine cwc_isCart X P1 hA hw ⟨Nat.le_of_ble_eq_true rfl, Nat.le_of_ble_eq_true rfl⟩ ⟨Nat.le_of_ble_eq_true rfl, Nat.le_of_ble_eq_true rfl⟩ hl.1 (Nat.le_of_ble_eq_true rfl) dX0_taken_37 (fun r hw => ?_)
    refine lv_goto (tgt := 51) hx hb dX0_taken_40 (by decide) ?_
    refine lv_bipush (v := -11) hx hb dX0_taken_51 (by decide) ?_
    refine c_need X P1 hz ⟨Nat.le_of_ble_eq_true rfl, Nat.le_of_ble_eq_true rfl⟩ ⟨Nat.le_of_ble_eq_true rfl, Nat.le_of_ble_eq_true rfl⟩ hl.1 (Nat.le_of_ble_eq_true rfl) dX0_taken_53 (fun hb1 a H2 locs2 P2 hOd => ?_) (fun hb1 locs2 P2 => ?_)
    · exact tk_catch X hr hh0 rfl P2 hOd (hw.1 hb1) (by decide) (by decide) (lv_sub hl [] rfl)
    · exact tk_cart X hr hh0 hz hSh hNc P2 c16 (hw.2 hb1) hl
