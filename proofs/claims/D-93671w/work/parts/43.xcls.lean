/-! ===== the class's methods that may throw an Odd: starts, calls, handlers; there; Sheet.put ===== -/
set_option maxRecDepth 100000
theorem c_start {D : va_G} {G ad : Nat → Nat} {Kd : tK} {U : tU} {T : tT} {zz : Int32} {F : tF} {Ar : tA} {sz : Nat} {s : State} (h : cPb D G ad Kd U T zz F Ar sz s) : s.heap.size = sz ∧ cP D (cReg G ad Kd U zz s.heap.size) G ad s.heap Kd U T zz F Ar s.heap [] ∧ va_K D vcl (cTys G) s ∧ cNw s := by
  obtain ⟨hsz, hP, hD, hW, hK, hN⟩ := h
  exact ⟨hsz, ⟨hP, ⟨hD.1, fun k hk => Or.inl ⟨k, cE_dom hW.2.2.symm hk, rfl⟩⟩, va_S.rf, hW⟩, hK, hN⟩
def cPz (D : va_G) (G ad : Nat → Nat) (Kd : tK) (U : tU) (T : tT) (zz : Int32) (F : tF) (Ar : tA) (sz : Nat) (V : State) : Prop := cPb D G ad Kd U T zz F Ar sz V ∧ zTh (cReg G ad Kd U zz sz) V V.heap
theorem cz_blind {D : va_G} {G ad : Nat → Nat} {Kd : tK} {U : tU} {T : tT} {zz : Int32} {F : tF} {Ar : tA} {sz : Nat} {as : List Value} : FrameBlind (va_Pc as (cPz D G ad Kd U T zz F Ar sz)) := fun a V g mk q => by
  obtain ⟨q0, q1, q2⟩ := q
  exact ⟨q0, (c_blind a V g mk ⟨q0, q1⟩).2, q2.moved (Vm.Alike.refl V.vm)⟩
theorem c_entryX {l : Launch} {y : MethodName} {cc : ByteArray} {maxL : Nat} {ret : Option FieldType} {hh : List (Nat × Nat × Nat × Nat)} {rm : Room} {Qc : Array Value → State → Outcome → State → Prop} {free : Nat → Prop} {mc ms : Nat} {D : va_G} {G ad : Nat → Nat} {Kd : tK} {U : tU} {T : tT} {zz : Int32} {F : tF} {Ar : tA} {sz : Nat} {as : List Value} (hy : plainName y.cls = true) (hlen : (lg_sl as).length ≤ maxL)
    (body : ∀ (p : Program) (e : Env) (s : State) (m : MethodId) (args : Array Value) (below : List Frame) (meth : Method) (c : Code) (ls : Array Slot), cCx p s m args meth c cc maxL y.cls D G → meth.sig.returnType = ret → s.heap.size = sz → cP D (cReg G ad Kd U zz s.heap.size) G ad s.heap Kd U T zz F Ar s.heap [] → lv_has ls maxL (lv_args 0 as) → zTh (cReg G ad Kd U zz s.heap.size) s s.heap → c.exceptionTable.toList.map (fun h => (h.startPc, h.endPc, h.handlerPc, h.catchType)) = hh → W p l e rm s m args below meth c s.heap [] 0 0 (MQ below Qc args s mc ms free) (F0 m 0 ls [])) :
    Met l y (wsW_ y cc maxL ret hh) rm (va_Pc as (cPz D G ad Kd U T zz F Ar sz)) Qc mc ms free := by
  refine va_MetWx (cc := cc) (maxL := maxL) (ret := ret) (hh := hh) hy rfl ?_
  intro p e s m args below meth c s₁ B hml hh0 hv
  obtain ⟨rfl, hb, hz⟩ := hv
  obtain ⟨hsz, hP, hK, hN⟩ := c_start hb
  have hts := atoms_spec (ws := wsW_ y cc maxL ret hh) B.pre
  have hts : ∀ w ∈ lw_all, w.before _ s = true := fun w h => hts w (List.mem_cons_of_mem _ h)
  have hl := lv_entry as (n := maxL) hlen
  rw [lg_entry_eq]
  generalize (lg_sl as ++ List.replicate (maxL - (lg_sl as).length) Slot.unset).toArray = ls at hl ⊢
  exact body p e s m _ below meth c ls ⟨B.exec, B.bytes, hml, findClass_of_methodNamed B.named, hts, hK, B.notSynchronized, hN⟩ B.returns hsz hP hl (by rw [hsz]; exact hz) hh0
/-- cells of the world stay where nothing below the old size was written -/
theorem cP.keep {D : va_G} {G ad : Nat → Nat} {H0 : Heap} {Kd : tK} {U : tU} {T : tT} {zz : Int32} {F : tF} {Ar : tA} {H H1 : Heap} {locs locs1 : List Loc} {A : Nat → Prop} (P : cP D A G ad H0 Kd U T zz F Ar H locs) (hz : H.size ≤ H1.size) (hk : ∀ q : Nat, q < H.size → H1[q]? = H[q]?) (hA : ∀ q, H.size ≤ q → A q) (hl : ∀ q ∈ locs1, H.size ≤ q.base) : cP D A G ad H0 Kd U T zz F Ar H1 (locs ++ locs1) := by
  refine ⟨fun k x hx => (P.1 k x hx).kept (hk _ (P.1 k x hx).lt), P.2.1, ⟨Nat.le_trans P.2.2.1.1 hz, fun q h1 h2 => (hk q (Nat.lt_of_lt_of_le h1 P.2.2.1.1)).trans (P.2.2.1.2.1 q h1 h2), fun q hq => ?_⟩, P.2.2.2⟩
  rcases List.mem_append.mp hq with h | h
  · exact P.2.2.1.2.2 q h
  · exact hA _ (hl q h)
section XCLS
variable {p : Program} {l : Launch} {e : Env} {R : Room} {s : State} {m : MethodId} {args : Array Value} {below : List Frame} {meth : Method} {c : Code} {H : Heap} {locs : List Loc} {cells slots mc ms : Nat} {Q : State → Prop} {free : Addr → Prop}
variable {cc : ByteArray} {nL pc : Nat} {ls : Array Slot} {st0 rest : List Value} {D : va_G} {A : Nat → Prop} {G ad : Nat → Nat} {H0 : Heap} {Kd : tK} {U : tU} {T : tT} {zz : Int32} {F : tF} {Ar : tA}
/-- behind a call that returns v or throws an Odd -/
theorem c_xo {ok : Prop} {v : Option Value} {code : Int32} {as : Array Value} (P : cP D (cReg G ad Kd U zz s.heap.size) G ad s.heap Kd U T zz F Ar H locs) (hr : xRun p l e R s m args below meth c H locs cells slots mc ms (F0 m pc ls st0) rest (xoQ D H.size ok v code as) free)
    (kt : ¬ ok → ∀ (a : Nat) (H1 : Heap) (locs1 : List Loc), H.size ≤ a → cP D (cReg G ad Kd U zz s.heap.size) G ad s.heap Kd U T zz F Ar H1 locs1 → va_P D vcl [(a, .inr (15, oFs code))] H1 → xW p l e R s m args below meth c H1 locs1 (cells + 1) (slots + 7) Q (F0 m pc ls rest) a)
    (kr : ok → ∀ locs1 : List Loc, cP D (cReg G ad Kd U zz s.heap.size) G ad s.heap Kd U T zz F Ar H locs1 → W p l e R s m args below meth c H locs1 cells slots Q (F0 m (pc + 3) ls (v.toList ++ rest))) :
    W p l e R s m args below meth c H locs cells slots Q (F0 m pc ls st0) := by
  have hA : ∀ q, H.size ≤ q → cReg G ad Kd U zz s.heap.size q := fun q h => Or.inr (Nat.le_trans P.2.2.1.1 h)
  refine x_goE hr (fun v1 st t hst hq => ?_) (fun a st t hst hq => ?_)
  · rcases hq with ⟨h1, h2, h3, L, h4, h5⟩ | ⟨-, a, h, -⟩
    · cases h2
      refine ⟨L, 0, 0, h4, ?_⟩
      rw [h3, hst]
      exact kr h1 _ (P.keep (Nat.le_refl _) (fun _ _ => rfl) hA h5)
    · cases h
  · rcases hq with ⟨-, h, -⟩ | ⟨h1, a', h2, h3, h4, h5, L, h6, h7⟩
    · cases h
    · cases h2
      refine ⟨L, 1, 7, h6, ?_⟩
      have h50 := h5.1
      have h51 := h5.2
      rw [hst] at h50 h51
      exact kt h1 a _ _ h3 (P.keep h50 (fun q hq => h51 q hq (Nat.not_le.mpr hq)) hA h7) h4
theorem c_zTh (P : cP D (cReg G ad Kd U zz s.heap.size) G ad s.heap Kd U T zz F Ar H locs) (hz : zTh (cReg G ad Kd U zz s.heap.size) s s.heap) {V : State} (hV : V.heap = H) (hW : s.WarmedH V.vm) : zTh (cReg G ad Kd U zz H.size) V V.heap := by
  rw [hV]
  exact ((hz.kept (fun q h1 h2 => P.2.2.1.2.1 q h1 h2)).narrow (P.reg _ P.2.2.1.1)).moved hW.alike
theorem c_need {b code : Int32} (X : cCx p s m args meth c cc nL RX0 D G) (P : cP D (cReg G ad Kd U zz s.heap.size) G ad s.heap Kd U T zz F Ar H locs) (hz : zTh (cReg G ad Kd U zz s.heap.size) s s.heap) (hR : 5 + 1 ≤ R.frames ∧ 8 + (2 + 11) + 105 ≤ R.locals) (hC : cells + 1 ≤ R.cells ∧ slots + 7 ≤ R.slots) (hls : ls.size = nL) (hst : (rest.map fun v => v.category).sum ≤ 8) (hdg : decode cc pc = .ok (.invokestatic 358, 3))
    (kt : b = 0 → ∀ (a : Nat) (H1 : Heap) (locs1 : List Loc), cP D (cReg G ad Kd U zz s.heap.size) G ad s.heap Kd U T zz F Ar H1 locs1 → va_P D vcl [(a, .inr (15, oFs code))] H1 → xW p l e R s m args below meth c H1 locs1 (cells + 1) (slots + 7) Q (F0 m pc ls rest) a)
    (kr : ¬ b = 0 → ∀ locs1 : List Loc, cP D (cReg G ad Kd U zz s.heap.size) G ad s.heap Kd U T zz F Ar H locs1 → W p l e R s m args below meth c H locs1 cells slots Q (F0 m (pc + 3) ls rest)) :
    W p l e R s m args below meth c H locs cells slots Q (F0 m pc ls (.int code :: .int b :: rest)) := by
  obtain ⟨hx, hb, hml, hown, hts, hK, hlk, hN⟩ := id X
  exact c_xo P (x_runS (As := [.int b, .int code]) (rest := rest) ⟨hx, hb, hml, hown, hts⟩ (tX0_need l D H.size b code) (va_cwS 2 hts (lw_S q1240 q1241 q64 q1242) rfl rfl rfl (by decide +kernel) hR) ⟨nd_blind, fun V hV hW => ⟨rfl, by rw [hV], va_K.moved hW.alike (hK.sub [] rfl), (c_zTh P hz hV hW).narrow (fun q h => Or.inr h)⟩⟩ rfl rfl hls rfl (lv_room hst) hdg hC)
    (fun h a H1 locs1 _ P1 hO => kt (Classical.not_not.mp h) a H1 locs1 P1 hO) kr
/-- into the handler of an Odd -/
theorem c_caught {hh : List (Nat × Nat × Nat × Nat)} {hp a : Nat} {code : Int32} {st : List Value} (X : cCx p s m args meth c cc nL RX0 D G) (hh0 : c.exceptionTable.toList.map (fun h => (h.startPc, h.endPc, h.handlerPc, h.catchType)) = hh) (hf : hFind hh pc = some (hp, 343)) (hO : va_P D vcl [(a, .inr (15, oFs code))] H)
    (k : W p l e R s m args below meth c H locs cells slots Q (F0 m hp ls [.ref a])) : xW p l e R s m args below meth c H locs cells slots Q (F0 m pc ls st) a := by
  obtain ⟨hx, hb, hml, hown, hts, hK, hlk, hN⟩ := id X
  obtain ⟨cell, g1, g2, g3⟩ := va_recv hK hO (ci := 15) (q0 := 0) rfl rfl
  obtain ⟨hfc, kB, hkB, -⟩ := (hK.1 15 _ rfl).2
  have e9 : cell.cls = _ := Option.some.inj (g3.symm.trans hfc)
  refine x_caught hown (hts _ q1217) hh0 hf (by decide) g1 (fun z h => by rw [h] at g2; cases g2) (ks := kB) (by rw [e9]; exact hkB) g3 ?_ k
  have h1 := va_assign (hK.1 15 _ rfl).2
  rw [e9]
  exact h1
theorem c_oget {a : Nat} {code : Int32} (X : cCx p s m args meth c cc nL RX0 D G) (hO : va_P D vcl [(a, .inr (15, oFs code))] H) (hdg : decode cc pc = .ok (.getfield 366, 3)) (kk : W p l e R s m args below meth c H locs cells slots Q (F0 m (pc + 3) ls (.int code :: rest))) : W p l e R s m args below meth c H locs cells slots Q (F0 m pc ls (.ref a :: rest)) := by
  obtain ⟨hx, hb, hml, hown, hts, hK, hlk, hN⟩ := id X
  exact va_get hx hb hts in_X14 hown hK hO 0 rfl rfl 6 (by decide) (hts _ q1235) (fun _ h => h) rfl hdg kk
end XCLS
set_option maxHeartbeats 4000000 in
theorem tX0_there (l : Launch) (D : va_G) (G ad : Nat → Nat) (Kd : tK) (U : tU) (T : tT) (zz : Int32) (F : tF) (Ar : tA) (i : Int32) (hi : vp_in i 4) (sz : Nat) : xMet l yX0_there (ws_ yX0_there cX0_there 2 (some (.object "GateRoad$Sheet"))) { frames := 5, cells := 1, slots := 7, locals := 105 } (va_Pc [.ref (ad 0), .int i] (cPz D G ad Kd U T zz F Ar sz)) (xoQ D sz (¬ F (40 + 2 * i.toNatClampNeg) < 0) (some (.ref (ad (40 + i.toNatClampNeg)))) (-11)) 1 7 (fun q => sz ≤ q) := by
  refine xg_entry (by decide) (Nat.le_of_ble_eq_true rfl) ?_
  intro p e s m args below meth c ls hx hb hml hown hts hlk hr hB hl hno
  obtain ⟨hBb, hz⟩ := hB
  obtain ⟨hsz, P, hK, hN⟩ := c_start hBb
  subst hsz
  have hown : s.vm.findClass RX0 = some m.cls := hown
  have X : cCx p s m args meth c cX0_there 2 RX0 D G := ⟨hx, hb, hml, hown, hts, hK, hlk, hN⟩
  have hl : lv_has ls 2 [(0, .ref (ad 0)), (1, .int i)] := hl
  refine lv_aload_n hx hb dX0_there_0 rfl (lv_at hl 0 rfl) ?_
  refine cg_sheets X P dX0_there_1 ?_
  refine lv_iload_n hx hb dX0_there_4 rfl (lv_at hl 1 rfl) ?_
  refine c_saald X P hi dX0_there_5 (fun hk => ?_)
  refine c_sg_sort X P hk dX0_there_6 ?_
  refine lv_if_ge (tgt := 22) hx hb dX0_there_9 (by decide) (fun c_1 => ?_) (fun c_1 => ?_)
  · refine lv_aload_n hx hb dX0_there_22 rfl (lv_at hl 0 rfl) ?_
    refine cg_sheets X P dX0_there_23 ?_
    refine lv_iload_n hx hb dX0_there_26 rfl (lv_at hl 1 rfl) ?_
    refine c_saald X P hi dX0_there_27 (fun hk => ?_)
    exact xoQ.ret (Int32.not_lt.mpr c_1) (W.aret hx hb hr (Or.inl ⟨_, rfl⟩) (Or.inr ⟨_, rfl⟩) (fun t ht hW => ⟨rfl, ht⟩) (fun q h => by cases h) dX0_there_28 hlk)
  · exact x_odd (cells := 0) (slots := 0) (p3 := 18) hx hb hml hl.1 hown hts hlk hno hK (hK.sub [] rfl) (hz.narrow (fun q h => Or.inr h)) q1217 q1230 dX0_there_12 dX0_there_15 (fun H locs st Q c1 s1 k => lv_bipush (v := -11) hx hb dX0_there_16 (by decide) k) dX0_there_18 dX0_there_21 ⟨Nat.le_of_ble_eq_true rfl, Nat.le_of_ble_eq_true rfl⟩ (Nat.le_of_ble_eq_true rfl) (Nat.le_of_ble_eq_true rfl) (fun q h => h) (Nat.le_refl _) (Nat.le_refl _) (fun t a L h1 h2 h3 h4 h5 => Or.inr ⟨fun z => z (Int32.not_le.mp c_1), a, rfl, h1, h2, h3, L, h4, h5⟩)
section XCL2
variable {p : Program} {l : Launch} {e : Env} {R : Room} {s : State} {m : MethodId} {args : Array Value} {below : List Frame} {meth : Method} {c : Code} {H : Heap} {locs : List Loc} {cells slots mc ms : Nat} {Q : State → Prop} {free : Addr → Prop}
variable {cc : ByteArray} {nL pc : Nat} {ls : Array Slot} {st0 rest : List Value} {D : va_G} {A : Nat → Prop} {G ad : Nat → Nat} {H0 : Heap} {Kd : tK} {U : tU} {T : tT} {zz : Int32} {F : tF} {Ar : tA}
theorem c_there {i : Int32} (X : cCx p s m args meth c cc nL RX0 D G) (P : cP D (cReg G ad Kd U zz s.heap.size) G ad s.heap Kd U T zz F Ar H locs) (hz : zTh (cReg G ad Kd U zz s.heap.size) s s.heap) (hi : vp_in i 4) (hR : 5 + 1 ≤ R.frames ∧ 8 + (2 + 11) + 105 ≤ R.locals) (hC : cells + 1 ≤ R.cells ∧ slots + 7 ≤ R.slots) (hls : ls.size = nL) (hst : (rest.map fun v => v.category).sum ≤ 8) (hdg : decode cc pc = .ok (.invokevirtual 354, 3))
    (kt : F (40 + 2 * i.toNatClampNeg) < 0 → ∀ (a : Nat) (H1 : Heap) (locs1 : List Loc), cP D (cReg G ad Kd U zz s.heap.size) G ad s.heap Kd U T zz F Ar H1 locs1 → va_P D vcl [(a, .inr (15, oFs (-11)))] H1 → xW p l e R s m args below meth c H1 locs1 (cells + 1) (slots + 7) Q (F0 m pc ls rest) a)
    (kr : ¬ F (40 + 2 * i.toNatClampNeg) < 0 → ∀ locs1 : List Loc, i.toNatClampNeg < 4 → cP D (cReg G ad Kd U zz s.heap.size) G ad s.heap Kd U T zz F Ar H locs1 → W p l e R s m args below meth c H locs1 cells slots Q (F0 m (pc + 3) ls (.ref (ad (40 + i.toNatClampNeg)) :: rest))) :
    W p l e R s m args below meth c H locs cells slots Q (F0 m pc ls (.int i :: .ref (ad 0) :: rest)) := by
  obtain ⟨hx, hb, hml, hown, hts, hK, hlk, hN⟩ := id X
  have h4 : i.toNatClampNeg < 4 := Nat.not_le.mp fun q => hi (Or.inr q)
  have hp := c_prev (as := [.int i]) X P
  exact c_xo P (x_runV (C := RX0) (As := [.int i]) (rest := rest) ⟨hx, hb, hml, hown, hts⟩ (tX0_there l D G ad Kd U T zz F Ar i hi H.size) (cwV 1 hts (lw_V q1218 q1220 qs32 q64 q1221) rfl rfl rfl (by decide +kernel) hR) ⟨cz_blind, hp.2.1, fun V hV hW => ⟨rfl, (hp.2.2 V hV hW).2, c_zTh P hz hV hW⟩⟩ rfl rfl hls rfl (lv_room hst) hdg hC)
    (fun h a H1 locs1 _ P1 hO => kt (Classical.not_not.mp h) a H1 locs1 P1 hO) (fun h locs1 P1 => kr h locs1 h4 P1)
theorem c_sg1_sort (X : cCx p s m args meth c cc nL RX1 D G) (P : cP D A G ad H0 Kd U T zz F Ar H locs) {j : Nat} (hj : j < 4) (hdg : decode cc pc = .ok (.getfield 9, 3)) (kk : W p l e R s m args below meth c H locs cells slots Q (F0 m (pc + 3) ls (.int (F (40 + 2 * j)) :: rest))) : W p l e R s m args below meth c H locs cells slots Q (F0 m pc ls (.ref (ad (40 + j)) :: rest)) := by
  obtain ⟨hx, hb, hml, hown, hts, hK, hlk, hN⟩ := X
  exact gw_get hx hb hts in_X1 hown hK P.1 (cE_sheet hj) rfl 0 (by decide) (hts _ q147) (fun _ h => h) rfl hdg kk
theorem c_sg1_cells (X : cCx p s m args meth c cc nL RX1 D G) (P : cP D A G ad H0 Kd U T zz F Ar H locs) {j : Nat} (hj : j < 4) (hdg : decode cc pc = .ok (.getfield 18, 3)) (kk : W p l e R s m args below meth c H locs cells slots Q (F0 m (pc + 3) ls (.ref (ad (44 + j)) :: rest))) : W p l e R s m args below meth c H locs cells slots Q (F0 m pc ls (.ref (ad (40 + j)) :: rest)) := by
  obtain ⟨hx, hb, hml, hown, hts, hK, hlk, hN⟩ := X
  exact gw_get hx hb hts in_X1 hown hK P.1 (cE_sheet hj) rfl 2 (by decide) (hts _ q151) (fun _ h => h) rfl hdg kk
theorem c_iast1 (X : cCx p s m args meth c cc nL RX1 D G) (P : cP D A G ad H0 Kd U T zz F Ar H locs) {k n : Nat} (h1 : cArr Kd k = some (0, n)) {i x : Int32} (hin : vp_in i n) (hdg : decode cc pc = .ok (.iastore, 1))
    (kk : ∀ (A1 : tA) (H1 : Heap) (locs1 : List Loc), A1 = aset Ar k i.toNatClampNeg x → cP D A G ad H0 Kd U T zz F A1 H1 locs1 → H1.size = H.size → W p l e R s m args below meth c H1 locs1 cells slots Q (F0 m (pc + 1) ls rest)) : W p l e R s m args below meth c H locs cells slots Q (F0 m pc ls (.int x :: .int i :: .ref (ad k) :: rest)) := by
  obtain ⟨hx, hb, hml, hown, hts, hK, hlk, hN⟩ := X
  refine gw_iast hx hb hK P.1 P.2.1 P.2.2.1 0 (cE_of h1) rfl hin hdg ?_
  intro H1 locs1 hP hD hS hz
  rw [cE_arr h1] at hP hD
  exact kk _ H1 locs1 rfl ⟨hP, hD, hS, P.2.2.2⟩ hz
end XCL2
/-- what a sheet of a sort keeps of a number -/
def shV (sort v : Int32) : Int32 := if sort = 0 then v.toInt8.toInt32 else if sort = 1 then v.toInt16.toInt32 else v
set_option maxHeartbeats 4000000 in
theorem tX1_put (l : Launch) (D : va_G) (G ad : Nat → Nat) (Kd : tK) (U : tU) (T : tT) (zz : Int32) (F : tF) (Ar : tA) (j : Nat) (hj : j < 4) (i v : Int32) (hi : vp_in i 40) (sz : Nat) : Met l yX1_put (ws_ yX1_put cX1_put 3 none) { frames := 0, cells := 0, slots := 0, locals := 0 } (va_Pc [.ref (ad (40 + j)), .int i, .int v] (cPb D G ad Kd U T zz F Ar sz)) (cQv D G ad Kd U T zz sz (fun F1 A1 => F1 = F ∧ A1 = aset Ar (44 + j) i.toNatClampNeg (shV (F (40 + 2 * j)) v))) 0 0 (cReg G ad Kd U zz sz) := by
  refine c_entry (by decide) (Nat.le_of_ble_eq_true rfl) ?_
  intro p e s m args below meth c ls X hr hsz P hl
  subst hsz
  have X : cCx p s m args meth c cX1_put 3 RX1 D G := X
  obtain ⟨hx, hb, hml, hown, hts, -, hlk, -⟩ := id X
  have hl : lv_has ls 3 [(0, .ref (ad (40 + j))), (1, .int i), (2, .int v)] := hl
  have fin : ∀ x : Int32, x = shV (F (40 + 2 * j)) v → W p l e { frames := 0, cells := 0, slots := 0, locals := 0 } s m args below meth c s.heap [] 0 0 (MQ below (cQv D G ad Kd U T zz s.heap.size (fun F1 A1 => F1 = F ∧ A1 = aset Ar (44 + j) i.toNatClampNeg (shV (F (40 + 2 * j)) v))) args s 0 0 (cReg G ad Kd U zz s.heap.size)) (F0 m 31 ls [.int x, .int i, .ref (ad (44 + j))]) := by
    intro x ex
    refine c_iast1 X P (cArr_sc hj) hi dX1_put_31 (fun A1 H locs eA P _ => ?_)
    exact c_vret X P hr ⟨rfl, by rw [eA, ex]⟩ dX1_put_32
  refine lv_aload_n hx hb dX1_put_0 rfl (lv_at hl 0 rfl) ?_
  refine c_sg1_cells X P hj dX1_put_1 ?_
  refine lv_iload_n hx hb dX1_put_4 rfl (lv_at hl 1 rfl) ?_
  refine lv_aload_n hx hb dX1_put_5 rfl (lv_at hl 0 rfl) ?_
  refine c_sg1_sort X P hj dX1_put_6 ?_
  refine lv_if_ne (tgt := 17) hx hb dX1_put_9 (by decide) (fun c_1 => ?_) (fun c_1 => ?_)
  · refine lv_aload_n hx hb dX1_put_17 rfl (lv_at hl 0 rfl) ?_
    refine c_sg1_sort X P hj dX1_put_18 ?_
    refine lv_iconst (v := 1) hx hb dX1_put_21 (by decide) ?_
    refine lv_icmp_ne (tgt := 30) hx hb dX1_put_22 (by decide) (fun c_2 => ?_) (fun c_2 => ?_)
    · refine lv_iload_n hx hb dX1_put_30 rfl (lv_at hl 2 rfl) ?_
      exact fin _ (by simp [shV, c_1, c_2])
    · refine lv_iload_n hx hb dX1_put_25 rfl (lv_at hl 2 rfl) ?_
      refine lv_i2s hx hb dX1_put_26 rfl ?_
      refine lv_goto (tgt := 31) hx hb dX1_put_27 (by decide) ?_
      exact fin _ (by simp [shV, c_2])
  · refine lv_iload_n hx hb dX1_put_12 rfl (lv_at hl 2 rfl) ?_
    refine lv_i2b hx hb dX1_put_13 rfl ?_
    refine lv_goto (tgt := 31) hx hb dX1_put_14 (by decide) ?_
    exact fin _ (by simp [shV, c_1])
section XCL3
variable {p : Program} {l : Launch} {e : Env} {R : Room} {s : State} {m : MethodId} {args : Array Value} {below : List Frame} {meth : Method} {c : Code} {H : Heap} {locs : List Loc} {cells slots mc ms : Nat} {Q : State → Prop} {free : Addr → Prop}
variable {cc : ByteArray} {nL pc : Nat} {ls : Array Slot} {st0 rest : List Value} {D : va_G} {G ad : Nat → Nat} {Kd : tK} {U : tU} {T : tT} {zz : Int32} {F : tF} {Ar : tA}
theorem c_sput {j : Nat} {i v : Int32} (X : cCx p s m args meth c cc nL RX0 D G) (P : cP D (cReg G ad Kd U zz s.heap.size) G ad s.heap Kd U T zz F Ar H locs) (hj : j < 4) (hi : vp_in i 40) (hR : 0 + 1 ≤ R.frames ∧ 8 + (3 + 11) + 0 ≤ R.locals) (hC : cells ≤ R.cells ∧ slots ≤ R.slots) (hls : ls.size = nL) (hst : (rest.map fun v => v.category).sum ≤ 8) (hdg : decode cc pc = .ok (.invokevirtual 362, 3))
    (kk : ∀ (A1 : tA) (H1 : Heap) (locs1 : List Loc), A1 = aset Ar (44 + j) i.toNatClampNeg (shV (F (40 + 2 * j)) v) → cP D (cReg G ad Kd U zz s.heap.size) G ad s.heap Kd U T zz F A1 H1 locs1 → W p l e R s m args below meth c H1 locs1 cells slots Q (F0 m (pc + 3) ls rest)) :
    W p l e R s m args below meth c H locs cells slots Q (F0 m pc ls (.int v :: .int i :: .ref (ad (40 + j)) :: rest)) := by
  obtain ⟨hx, hb, hml, hown, hts, hK, hlk, hN⟩ := id X
  have hp := c_prev (as := [.int i, .int v]) X P
  refine va_callv (va_runV (C := RX1) (As := [.int i, .int v]) (rest := rest) ⟨hx, hb, hml, hown, hts⟩ (tX1_put l D G ad Kd U T zz F Ar j hj i v hi H.size) (cwV 2 hts (lw_V q1243 q1244 q1245 q68 q1246) rfl rfl rfl (by decide +kernel) hR) ⟨c_blind, va_recv hK (gw_one P.1 (cE_sheet hj)) (ci := 8) (q0 := 0) rfl rfl, fun V hV hW => ⟨rfl, (hp.2.2 V hV hW).2⟩⟩ rfl rfl hls rfl (lv_room hst) hdg hC) P.2.2.1 (fun q _ h => P.reg _ P.2.2.1.1 q h) (fun q h => P.reg _ P.2.2.1.1 q h) (fun u t H1 locs1 ht hvm hp hB _ _ hS => ?_)
  have P1 := c_after P ht hB hS
  rw [hp.1] at P1
  exact kk u.2 H1 locs1 hp.2 P1
end XCL3
