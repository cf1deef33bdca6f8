/-! ===== the reader: constants, here, is, fault; by gen/rd1.py ===== -/
set_option maxRecDepth 100000
def sgB : List Int32 := [40, 41, 59, 43, 45, 42, 60, 61]
def ntB : List Int32 := [110, 111, 116]
def anB : List Int32 := [97, 110, 100]
def orB : List Int32 := [111, 114]
def nmB (j : Nat) : List Int32 := match j with
  | 0 => [119, 97, 105, 116]
  | 1 => [101, 97, 114, 108, 121]
  | 2 => [108, 97, 116, 101]
  | 3 => [109, 105, 110, 117, 116, 101]
  | 4 => [115, 111, 114, 116]
  | _ => [116, 111, 108, 108]
def kyB (j : Nat) : List Int32 := match j with
  | 0 => [99, 111, 115, 116]
  | _ => [108, 111, 115, 116]
def rN (U : State) : Prop := va_Nw (.methodLinkNest "GateRoad$Reader" 51 yX0_in "GateRoad") U ∧ va_Nw (.fieldLinkNest "GateRoad$Reader" 146 "GateRoad" "KEYS" "[Ljava/lang/String;" "GateRoad") U ∧ va_Nw (.fieldLinkNest "GateRoad$Reader" 112 "GateRoad" "NAMES" "[Ljava/lang/String;" "GateRoad") U ∧ wS U
theorem rN.same {u U : State} (hv : u.vm = U.vm) (h : rN u) : rN U := ⟨va_Nw.same rfl hv h.1, va_Nw.same rfl hv h.2.1, va_Nw.same rfl hv h.2.2.1, h.2.2.2.same hv⟩
theorem rN.warm {s U : State} (hW : s.WarmedH U.vm) (h : rN s) : rN U := ⟨va_Nw.warmM hW h.1, va_Nw.warmF hW h.2.1, va_Nw.warmF hW h.2.2.1, h.2.2.2.warm hW⟩
def kS (own : String) (k : Nat) (tx : String) (b : List Int32) (A : Nat → Prop) (V : State) (H : Heap) : Prop := ∃ q, vk_R own k tx q V ∧ sS q b A V H
def kA (nm : String) (n : Nat) (bs : Nat → List Int32) (A : Nat → Prop) (V : State) (H : Heap) : Prop := ∃ (ta : Nat) (ad : Nat → Nat), va_Z "GateRoad" nm "[Ljava/lang/String;" (.ref ta) A V H ∧ va_T (.object "java/lang/String") ta n (fun j => .ref (ad j)) A V H ∧ ∀ j, j < n → sS (ad j) (bs j) A V H
theorem kS.warm {own : String} {k : Nat} {tx : String} {b : List Int32} {A : Nat → Prop} {s U : State} {H : Heap} (hW : s.WarmedH U.vm) (h : kS own k tx b A s H) : kS own k tx b A U H := by
  obtain ⟨q, h1, h2⟩ := h
  exact ⟨q, h1.warm hW, h2.moved hW.alike⟩
theorem kS.same {own : String} {k : Nat} {tx : String} {b : List Int32} {A : Nat → Prop} {s U : State} {H : Heap} (hv : U.vm = s.vm) (h : kS own k tx b A s H) : kS own k tx b A U H := by
  obtain ⟨q, h1, h2⟩ := h
  exact ⟨q, h1.same hv, h2.moved (by rw [hv]; exact Vm.Alike.refl _)⟩
theorem kS.kept {own : String} {k : Nat} {tx : String} {b : List Int32} {A : Nat → Prop} {U : State} {H H1 : Heap} (h : kS own k tx b A U H) (hq : ∀ a : Nat, a < H.size → ¬ A a → H1[a]? = H[a]?) : kS own k tx b A U H1 := by
  obtain ⟨q, h1, h2⟩ := h
  exact ⟨q, h1, h2.kept hq⟩
theorem kS.narrow {own : String} {k : Nat} {tx : String} {b : List Int32} {A B : Nat → Prop} {U : State} {H : Heap} (h : kS own k tx b A U H) (hAB : ∀ q, B q → A q) : kS own k tx b B U H := by
  obtain ⟨q, h1, h2⟩ := h
  exact ⟨q, h1, h2.narrow hAB⟩
theorem kA.moved {nm : String} {n : Nat} {bs : Nat → List Int32} {A : Nat → Prop} {s U : State} {H : Heap} (hv : s.vm.Alike U.vm) (h : kA nm n bs A s H) : kA nm n bs A U H := by
  obtain ⟨ta, ad, h1, h2, h3⟩ := h
  exact ⟨ta, ad, h1.moved hv, h2.moved hv, fun j hj => (h3 j hj).moved hv⟩
theorem kA.kept {nm : String} {n : Nat} {bs : Nat → List Int32} {A : Nat → Prop} {U : State} {H H1 : Heap} (h : kA nm n bs A U H) (hq : ∀ a : Nat, a < H.size → ¬ A a → H1[a]? = H[a]?) : kA nm n bs A U H1 := by
  obtain ⟨ta, ad, h1, h2, h3⟩ := h
  exact ⟨ta, ad, h1.kept hq, h2.kept hq, fun j hj => (h3 j hj).kept hq⟩
theorem kA.narrow {nm : String} {n : Nat} {bs : Nat → List Int32} {A B : Nat → Prop} {U : State} {H : Heap} (h : kA nm n bs A U H) (hAB : ∀ q, B q → A q) : kA nm n bs B U H := by
  obtain ⟨ta, ad, h1, h2, h3⟩ := h
  exact ⟨ta, ad, h1.narrow hAB, h2.narrow hAB, fun j hj => (h3 j hj).narrow hAB⟩
def rK (A : Nat → Prop) (V : State) (H : Heap) : Prop := rN V ∧ zC A V H ∧ zTh A V H ∧ kS "GateRoad$Reader" 77 "();+-*<=" sgB A V H ∧ kS "GateRoad$Reader" 132 "not" ntB A V H ∧ kS "GateRoad$Reader" 139 "and" anB A V H ∧ kS "GateRoad$Reader" 144 "or" orB A V H ∧ kA "NAMES" 6 nmB A V H ∧ kA "KEYS" 2 kyB A V H
theorem rK.warm {A : Nat → Prop} {s U : State} {H : Heap} (hW : s.WarmedH U.vm) (h : rK A s H) : rK A U H := by
  obtain ⟨h0, h1, h2, h3, h4, h5, h6, h7, h8⟩ := h
  exact ⟨h0.warm hW, va_Z.moved hW.alike h1, h2.moved hW.alike, h3.warm hW, h4.warm hW, h5.warm hW, h6.warm hW, h7.moved hW.alike, h8.moved hW.alike⟩
theorem rK.same {A : Nat → Prop} {s U : State} {H : Heap} (hv : U.vm = s.vm) (h : rK A s H) : rK A U H := by
  obtain ⟨h0, h1, h2, h3, h4, h5, h6, h7, h8⟩ := h
  have ha : s.vm.Alike U.vm := by rw [hv]; exact Vm.Alike.refl _
  exact ⟨h0.same hv.symm, va_Z.moved ha h1, h2.moved ha, h3.same hv, h4.same hv, h5.same hv, h6.same hv, h7.moved ha, h8.moved ha⟩
theorem rK.kept {A : Nat → Prop} {U : State} {H H1 : Heap} (h : rK A U H) (hq : ∀ a : Nat, a < H.size → ¬ A a → H1[a]? = H[a]?) : rK A U H1 := by
  obtain ⟨h0, h1, h2, h3, h4, h5, h6, h7, h8⟩ := h
  exact ⟨h0, va_Z.kept h1 hq, h2.kept hq, h3.kept hq, h4.kept hq, h5.kept hq, h6.kept hq, h7.kept hq, h8.kept hq⟩
theorem rK.narrow {A B : Nat → Prop} {U : State} {H : Heap} (h : rK A U H) (hAB : ∀ q, B q → A q) : rK B U H := by
  obtain ⟨h0, h1, h2, h3, h4, h5, h6, h7, h8⟩ := h
  exact ⟨h0, va_Z.narrow h1 hAB, h2.narrow hAB, h3.narrow hAB, h4.narrow hAB, h5.narrow hAB, h6.narrow hAB, h7.narrow hAB, h8.narrow hAB⟩
/-- the reader's state: at, from, open, word, number, sign -/
abbrev tR : Type := Nat × Nat × Nat × Option (List Int32) × Int32 × Int32
def rdO (tx n : Nat) (ρ : tR) (wv : Value) : List Value := [.ref tx, .int (nI n), .int (nI ρ.1), .int (nI ρ.2.1), .int (nI ρ.2.2.1), wv, .int ρ.2.2.2.2.1, .int ρ.2.2.2.2.2]
def rdW (r tx cB NN : Nat) (tp : Nat → Int32) (n : Nat) (ρ : tR) (wv : Value) : va_W := [(r, .inr (13, rdO tx n ρ wv)), (tx, .inl (cB, NN, .inl tp))]
def wdOK (E : Nat → Prop) (w : Option (List Int32)) (wv : Value) (V : State) (H : Heap) : Prop := (w = none ∧ wv = .null) ∨ ∃ (b : List Int32) (t : Nat), w = some b ∧ b.length ≤ 9 ∧ wv = .ref t ∧ sS t b E V H
theorem wdOK.moved {E : Nat → Prop} {w : Option (List Int32)} {wv : Value} {s U : State} {H : Heap} (hv : s.vm.Alike U.vm) (h : wdOK E w wv s H) : wdOK E w wv U H := by
  rcases h with h | ⟨b, t, h1, h2, h3, h4⟩
  · exact Or.inl h
  · exact Or.inr ⟨b, t, h1, h2, h3, h4.moved hv⟩
theorem wdOK.narrow {E E2 : Nat → Prop} {w : Option (List Int32)} {wv : Value} {U : State} {H : Heap} (h : wdOK E w wv U H) (hE : ∀ q, E2 q → E q) : wdOK E2 w wv U H := by
  rcases h with h | ⟨b, t, h1, h2, h3, h4⟩
  · exact Or.inl h
  · exact Or.inr ⟨b, t, h1, h2, h3, h4.narrow hE⟩
theorem wdOK.kept {E : Nat → Prop} {w : Option (List Int32)} {wv : Value} {U : State} {H H1 : Heap} (h : wdOK E w wv U H) (hq : ∀ a : Nat, a < H.size → ¬ E a → H1[a]? = H[a]?) : wdOK E w wv U H1 := by
  rcases h with h | ⟨b, t, h1, h2, h3, h4⟩
  · exact Or.inl h
  · exact Or.inr ⟨b, t, h1, h2, h3, h4.kept hq⟩
def rA (r tx sz : Nat) : Nat → Prop := fun q => q = r ∨ q = tx ∨ sz ≤ q
def hr (tp : Nat → Int32) (n a : Nat) : Int32 := if a < n then tp a &&& 255 else -1
def hrB (D : va_G) (r tx cB NN : Nat) (tp : Nat → Int32) (n : Nat) (ρ : tR) (wv : Value) (V : State) : Prop := va_P D vcl (rdW r tx cB NN tp n ρ wv) V.heap ∧ va_K D vcl [(cB, .byte)] V
theorem hrB_blind {as : List Value} {D : va_G} {r tx cB NN : Nat} {tp : Nat → Int32} {n : Nat} {ρ : tR} {wv : Value} : FrameBlind (va_Pc as (hrB D r tx cB NN tp n ρ wv)) := fun a V g mk q => ⟨q.1, q.2.1, va_K.moved (u := V) (U := V.calling g mk a) (Vm.Alike.refl V.vm) q.2.2⟩
set_option maxHeartbeats 1000000 in
theorem tX2_here (l : Launch) (D : va_G) (r tx cB NN : Nat) (tp : Nat → Int32) (n : Nat) (ρ : tR) (wv : Value) (hn : n ≤ NN) (hN : NN < 2 ^ 31) (ha : ρ.1 ≤ n) : Met l yX2_here (ws_ yX2_here cX2_here 1 (some .int)) { frames := 0, cells := 0, slots := 0, locals := 0 } (va_Pc [.ref r] (hrB D r tx cB NN tp n ρ wv)) (rQ (some (.int (hr tp n ρ.1)))) 0 0 (fun _ => False) := by
  refine g_entry (by decide) (Nat.le_of_ble_eq_true rfl) ?_
  intro p e s m args below meth c ls hx hb hml hown hts hlk hr0 hB hl _
  have hS : va_S nA s.heap s.heap [] := va_S.rf
  have hown : s.vm.findClass RX2 = some m.cls := hown
  obtain ⟨hP, hK⟩ := hB
  have hP : va_P D vcl [(r, .inr (13, [.ref tx, .int (nI n), .int (nI ρ.1), .int (nI ρ.2.1), .int (nI ρ.2.2.1), wv, .int ρ.2.2.2.2.1, .int ρ.2.2.2.2.2])), (tx, .inl (cB, NN, .inl tp))] s.heap := hP
  have hl : lv_has ls 1 [(0, .ref r)] := hl
  refine lv_aload_n hx hb dX2_here_0 rfl (lv_at hl 0 rfl) ?_
  refine va_get hx hb hts in_X2 hown hK hP 0 rfl rfl 2 (by decide) (hts _ q221) (fun _ h9 => h9) rfl dX2_here_1 ?_
  refine lv_aload_n hx hb dX2_here_4 rfl (lv_at hl 0 rfl) ?_
  refine va_get hx hb hts in_X2 hown hK hP 0 rfl rfl 1 (by decide) (hts _ q220) (fun _ h9 => h9) rfl dX2_here_5 ?_
  refine lv_icmp_ge (tgt := 27) hx hb dX2_here_8 (by decide) (fun c_1 => ?_) (fun c_1 => ?_)
  · have hh : hr tp n ρ.1 = -1 := if_neg (fun z => nI_ge z (by omega) c_1)
    rw [hh]
    refine lv_iconst (v := (-1)) hx hb dX2_here_27 (by decide) ?_
    exact rq_int hx hb hlk hr0 dX2_here_28
  · have hlt : ρ.1 < n := Nat.not_le.mp fun z => c_1 (nI_le z (by omega))
    have hh : hr tp n ρ.1 = tp ρ.1 &&& 255 := if_pos hlt
    rw [hh]
    refine lv_aload_n hx hb dX2_here_11 rfl (lv_at hl 0 rfl) ?_
    refine va_get hx hb hts in_X2 hown hK hP 0 rfl rfl 0 (by decide) (hts _ q219) (fun _ h9 => h9) rfl dX2_here_12 ?_
    refine lv_aload_n hx hb dX2_here_15 rfl (lv_at hl 0 rfl) ?_
    refine va_get hx hb hts in_X2 hown hK hP 0 rfl rfl 2 (by decide) (hts _ q221) (fun _ h9 => h9) rfl dX2_here_16 ?_
    refine va_bald hx hb hK hP 1 0 rfl rfl (nI_in (show ρ.1 < NN by omega) (by omega)) dX2_here_19 ?_
    rw [nI_clamp (by omega)]
    refine lv_sipush (v := 255) hx hb dX2_here_20 (by decide) ?_
    refine lv_iand hx hb dX2_here_23 ?_
    refine lv_goto (tgt := 28) hx hb dX2_here_24 (by decide) ?_
    exact rq_int hx hb hlk hr0 dX2_here_28
def inV (x lo hi : Int64) : Int32 := if x < lo then 0 else if hi < x then 0 else 1
theorem wc_in_V (x lo hi : Int64) : wc_in x lo hi (fun r => r = inV x lo hi) := by
  unfold wc_in inV
  refine ⟨fun h => by rw [if_pos h], fun h => ⟨fun h2 => by rw [if_neg h, if_pos h2], fun h2 => by rw [if_neg h, if_neg h2]⟩⟩
section RDR
variable {p : Program} {l : Launch} {e : Env} {R : Room} {s : State} {m : MethodId} {args : Array Value} {below : List Frame} {meth : Method} {c : Code} {H : Heap} {locs : List Loc} {cells slots : Nat} {Q : State → Prop}
variable {cc : ByteArray} {nL pc : Nat} {ls : Array Slot} {rest : List Value}
theorem rd_in {x lo hi : Int64} (S : CallFix p m c cc nL s args lw_all RX2) (hN : rN s) (hR : 1 ≤ R.frames ∧ 25 ≤ R.locals) (hC : cells ≤ R.cells ∧ slots ≤ R.slots) (hls : ls.size = nL) (hst : (rest.map fun v => v.category).sum ≤ 8) (hdg : decode cc pc = .ok (.invokestatic 51, 3)) (kk : W p l e R s m args below meth c H locs cells slots Q (F0 m (pc + 3) ls (.int (inV x lo hi) :: rest))) : W p l e R s m args below meth c H locs cells slots Q (F0 m pc ls (.long hi :: .long lo :: .long x :: rest)) :=
  vp_callSi (vrun_call (va_runSN (As := [.long x, .long lo, .long hi]) (rest := rest) S (twc_in l x lo hi (fun r => r = inV x lo hi) (wc_in_V x lo hi)) ⟨va_cnB 3 S.2.2.2.2 (lw_meth q264) rfl rfl rfl hN.1 (S.2.2.2.2 _ q64) (by decide +kernel) ⟨hR.1, hR.2⟩, S.2.2.2.2 _ q263, trivial⟩ ⟨blindT, fun U hU hW => ⟨rfl, trivial⟩⟩ rfl rfl hls rfl (lv_room hst) hdg hC)) (fun r hr => by rw [hr]; exact kk)
end RDR
def isB (D : va_G) (r tx cB NN : Nat) (tp : Nat → Int32) (n : Nat) (ρ : tR) (wv : Value) (t : Nat) (b : List Int32) (V : State) : Prop := hrB D r tx cB NN tp n ρ wv V ∧ wdOK (fun q => q = r) ρ.2.2.2.1 wv V V.heap ∧ zC nA V V.heap ∧ sS t b nA V V.heap
theorem isB_blind {as : List Value} {D : va_G} {r tx cB NN : Nat} {tp : Nat → Int32} {n : Nat} {ρ : tR} {wv : Value} {t : Nat} {b : List Int32} : FrameBlind (va_Pc as (isB D r tx cB NN tp n ρ wv t b)) := fun a V g mk q => ⟨q.1, (hrB_blind a V g mk ⟨q.1, q.2.1⟩).2, q.2.2.1.moved (Vm.Alike.refl V.vm), va_Z.moved (Vm.Alike.refl V.vm) q.2.2.2.1, q.2.2.2.2.moved (Vm.Alike.refl V.vm)⟩
def isV (w : Option (List Int32)) (b : List Int32) : Int32 := if w = some b then 1 else 0
set_option maxHeartbeats 1000000 in
theorem tX2_is (l : Launch) (D : va_G) (r tx cB NN : Nat) (tp : Nat → Int32) (n : Nat) (ρ : tR) (wv : Value) (t : Nat) (b : List Int32) (hb0 : b.length < 2 ^ 31) : Met l yX2_is (ws_ yX2_is cX2_is 2 (some .boolean)) { frames := 2, cells := 0, slots := 0, locals := 44 } (va_Pc [.ref r, .ref t] (isB D r tx cB NN tp n ρ wv t b)) (rQ (some (.int (isV ρ.2.2.2.1 b)))) 0 0 (fun _ => False) := by
  refine g_entry (by decide) (Nat.le_of_ble_eq_true rfl) ?_
  intro p e s m args below meth c ls hx hb hml hown hts hlk hr0 hB hl _
  have hS : va_S nA s.heap s.heap [] := va_S.rf
  have hown : s.vm.findClass RX2 = some m.cls := hown
  obtain ⟨⟨hP, hK⟩, hw, hZ, hs⟩ := hB
  have hl : lv_has ls 2 [(0, .ref r), (1, .ref t)] := hl
  rcases hw with ⟨h1, h2⟩ | ⟨b2, t2, h1, h2, h3, h4⟩
  · subst h2
    have hP : va_P D vcl [(r, .inr (13, [.ref tx, .int (nI n), .int (nI ρ.1), .int (nI ρ.2.1), .int (nI ρ.2.2.1), .null, .int ρ.2.2.2.2.1, .int ρ.2.2.2.2.2])), (tx, .inl (cB, NN, .inl tp))] s.heap := hP
    have hv : isV ρ.2.2.2.1 b = 0 := by rw [h1]; rfl
    rw [hv]
    refine lv_aload_n hx hb dX2_is_0 rfl (lv_at hl 1 rfl) ?_
    refine lv_aload_n hx hb dX2_is_1 rfl (lv_at hl 0 rfl) ?_
    refine va_get hx hb hts in_X2 hown hK hP 0 rfl rfl 5 (by decide) (hts _ q224) (fun _ h9 => h9) rfl dX2_is_2 ?_
    refine r_call (W.runV (C := RJ3) (As := [.null]) (rest := []) ⟨hx, hb, hml, hown, hts⟩ (tJ3_equals_null l t b) (cwV 1 hts (lw_V q562 q563 q564 q69 q565) rfl rfl rfl (by decide +kernel) ⟨Nat.le_of_ble_eq_true rfl, Nat.le_of_ble_eq_true rfl⟩) ⟨sBq_blind, hs.recv, fun U hU hW => ⟨rfl, by unfold sBq; rw [hU]; exact ⟨va_Z.moved hW.alike hZ, hs.moved hW.alike, fun q h => by cases h⟩⟩⟩ rfl rfl hl.1 rfl (lv_room (Nat.le_of_ble_eq_true rfl)) dX2_is_5 ⟨Nat.zero_le _, Nat.zero_le _⟩) ?_
    exact rq_bool hx hb hlk hr0 rfl dX2_is_8
  · subst h3
    have hP : va_P D vcl [(r, .inr (13, [.ref tx, .int (nI n), .int (nI ρ.1), .int (nI ρ.2.1), .int (nI ρ.2.2.1), .ref t2, .int ρ.2.2.2.2.1, .int ρ.2.2.2.2.2])), (tx, .inl (cB, NN, .inl tp))] s.heap := hP
    have h4 : sS t2 b2 nA s s.heap := h4.narrow (fun q h => h.elim)
    have hv : isV ρ.2.2.2.1 b = if b = b2 then 1 else 0 := by
      unfold isV
      rw [h1]
      by_cases e : b = b2
      · rw [if_pos e, if_pos (by rw [e])]
      · rw [if_neg e, if_neg (fun z => e (Option.some.inj z).symm)]
    rw [hv]
    refine lv_aload_n hx hb dX2_is_0 rfl (lv_at hl 1 rfl) ?_
    refine lv_aload_n hx hb dX2_is_1 rfl (lv_at hl 0 rfl) ?_
    refine va_get hx hb hts in_X2 hown hK hP 0 rfl rfl 5 (by decide) (hts _ q224) (fun _ h9 => h9) rfl dX2_is_2 ?_
    refine r_call (W.runV (C := RJ3) (As := [.ref t2]) (rest := []) ⟨hx, hb, hml, hown, hts⟩ (tJ3_equals l t t2 b b2 hb0 (by omega)) (cwV 1 hts (lw_V q562 q563 q564 q69 q565) rfl rfl rfl (by decide +kernel) ⟨Nat.le_of_ble_eq_true rfl, Nat.le_of_ble_eq_true rfl⟩) ⟨sBq_blind, hs.recv, fun U hU hW => ⟨rfl, by unfold sBq; rw [hU]; exact ⟨va_Z.moved hW.alike hZ, hs.moved hW.alike, fun q h => by cases h; exact h4.moved hW.alike⟩⟩⟩ rfl rfl hl.1 rfl (lv_room (Nat.le_of_ble_eq_true rfl)) dX2_is_5 ⟨Nat.zero_le _, Nat.zero_le _⟩) ?_
    exact rq_bool hx hb hlk hr0 (by split <;> rfl) dX2_is_8
def flP (D : va_G) (r tx cB NN : Nat) (tp : Nat → Int32) (n : Nat) (ρ : tR) (wv : Value) (sz : Nat) (V : State) : Prop := (V.heap.size = sz ∧ hrB D r tx cB NN tp n ρ wv V) ∧ zTh (fun q => sz ≤ q) V V.heap
theorem fl_blind {as : List Value} {D : va_G} {r tx cB NN : Nat} {tp : Nat → Int32} {n : Nat} {ρ : tR} {wv : Value} {sz : Nat} : FrameBlind (va_Pc as (flP D r tx cB NN tp n ρ wv sz)) := fun a V g mk q => ⟨q.1, ⟨q.2.1.1, (hrB_blind a V g mk ⟨q.1, q.2.1.2⟩).2⟩, q.2.2.moved (Vm.Alike.refl V.vm)⟩
def flQ (D : va_G) (v : Int32) (sz : Nat) : Array Value → State → Outcome → State → Prop := va_Qr (fun _ : Unit => True) (fun _ a t => sz ≤ a ∧ va_P D vcl [(a, .inr (16, oFs v))] t.heap) (fun q => sz ≤ q)
set_option maxHeartbeats 1000000 in
theorem tX2_fault (l : Launch) (D : va_G) (r tx cB NN : Nat) (tp : Nat → Int32) (n : Nat) (ρ : tR) (wv : Value) (sz : Nat) : Met l yX2_fault (ws_ yX2_fault cX2_fault 1 (some (.object "GateRoad$Fault"))) { frames := 5, cells := 1, slots := 7, locals := 105 } (va_Pc [.ref r] (flP D r tx cB NN tp n ρ wv sz)) (flQ D (nI ρ.2.1) sz) 1 7 (fun q => sz ≤ q) := by
  refine g_entry (by decide) (Nat.le_of_ble_eq_true rfl) ?_
  intro p e s m args below meth c ls hx hb hml hown hts hlk hr0 hB hl _
  obtain ⟨⟨hsz, hP0, hK⟩, hz⟩ := hB
  subst hsz
  have hl : lv_has ls 1 [(0, .ref r)] := hl
  have hown : s.vm.findClass RX2 = some m.cls := hown
  have hS : va_S (fun q => s.heap.size ≤ q) s.heap s.heap [] := va_S.rf
  have hPz : va_P D vcl [] s.heap := fun k q h => by cases h
  have hDz : va_D (fun q => s.heap.size ≤ q) [] := ⟨fun i j p q h => by simp at h, fun k q h => by simp at h⟩
  refine va_new (ci := 16) (fs := [.null, .null, .null, .null, .null, .int 0, .int 0]) (C := RX3) (T := TX3) (N := 7) hx hb hts in_X3 tyX3 tyX3_ok hown (hts _ q433) (hts _ q434) (hts _ q83) hK hPz hDz hS (fun q h => h) rfl (fun j hj => by rcases (show j = 0 ∨ j = 1 ∨ j = 2 ∨ j = 3 ∨ j = 4 ∨ j = 5 ∨ j = 6 by omega) with rfl | rfl | rfl | rfl | rfl | rfl | rfl <;> rfl) (Nat.le_of_ble_eq_true rfl) (Nat.le_of_ble_eq_true rfl) dX2_fault_0 (fun a H hP hD hS => ?_)
  have hP : va_P D vcl [(a, .inr (16, oFs 0))] H := hP
  have ha : s.heap.size ≤ a := hD.2 0 _ rfl
  have hzz : s.heap.size ≤ H.size := hS.1
  have hold : ∀ q : Nat, q < s.heap.size → H[q]? = s.heap[q]? := fun q hq => hS.2.1 q hq (Nat.not_le.mpr hq)
  have hP1 : va_P D vcl (rdW r tx cB NN tp n ρ wv) H := hP0.kept (fun k q hq => hold _ (hP0 k q hq).lt)
  have hP1 : va_P D vcl [(r, .inr (13, [.ref tx, .int (nI n), .int (nI ρ.1), .int (nI ρ.2.1), .int (nI ρ.2.2.1), wv, .int ρ.2.2.2.2.1, .int ρ.2.2.2.2.2])), (tx, .inl (cB, NN, .inl tp))] H := hP1
  refine lv_dup hx hb dX2_fault_3 rfl ?_
  refine lv_aload_n hx hb dX2_fault_4 rfl (lv_at hl 0 rfl) ?_
  refine va_get hx hb hts in_X2 hown hK hP1 0 rfl rfl 3 (by decide) (hts _ q222) (fun _ h9 => h9) rfl dX2_fault_5 ?_
  refine va_callv (va_runI (As := [.int (nI ρ.2.1)]) (rest := [.ref a]) ⟨hx, hb, hml, hown, hts⟩ (tX3_init l D a H.size (nI ρ.2.1)) (cwI 1 hts (lw_meth q475) rfl rfl rfl (hts _ q83) (hts _ q473) (hts _ q474) rfl (by decide +kernel) ⟨Nat.le_of_ble_eq_true rfl, Nat.le_of_ble_eq_true rfl⟩) ⟨o_blind, fun U hU hW => ⟨rfl, ⟨by rw [hU], by rw [hU]; exact hP⟩, va_K.moved hW.alike (hK.sub [] rfl), by rw [hU]; exact ((hz.kept (fun q h1 h2 => hS.2.1 q h1 h2)).narrow (fun q h => h.elim (fun z => by rw [z]; exact ha) (fun z => Nat.le_trans hzz z))).moved hW.alike⟩⟩ rfl rfl hl.1 rfl (lv_room (Nat.le_of_ble_eq_true rfl)) dX2_fault_8 ⟨Nat.le_of_ble_eq_true rfl, Nat.le_of_ble_eq_true rfl⟩) hS (fun q _ h => h.elim (fun z => by rw [z]; exact ha) (fun z => Nat.le_trans hzz z)) (fun q h => h.elim (fun z => by rw [z]; exact ha) (fun z => Nat.le_trans hzz z)) (fun b t H1 locs1 ht hvm hb2 hB _ _ hS => ?_)
  exact W.aret hx hb hr0 (Or.inl ⟨_, rfl⟩) (Or.inr ⟨_, rfl⟩) (fun t2 ht2 hW => ⟨⟨(), a, rfl, trivial, ha, by rw [ht2, ← ht]; exact hB⟩, hS.F ht2⟩) hS.2.2 dX2_fault_11 hlk
