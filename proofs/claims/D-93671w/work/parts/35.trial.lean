/-! ===== trial; by gen/trial.py ===== -/
set_option maxRecDepth 100000
abbrev tM : Type := (Nat → Nat) × tK × tF × tA
def cBM (D : va_G) (G ad : Nat → Nat) (Kd : tK) (U : tU) (T : tT) (zz : Int32) (sz : Nat) (u : tM) (t : State) : Prop :=
  gw_P D vcl u.1 (cE G u.1 u.2.2.1 u.2.2.2 u.2.1 U) t.heap ∧ gw_D (cReg G ad Kd U zz sz) u.1 (cE G u.1 u.2.2.1 u.2.2.2 u.2.1 U) ∧ (cWf u.2.2.1 u.2.1 ∧ cTx G u.1 U T u.2.2.1 ∧ u.2.2.1 32 = zz) ∧ (∀ k, cE G ad (fun _ => zz) (fun _ _ => 0) Kd U k ≠ none → u.1 k = ad k) ∧ ∀ j, u.1 (200 + j) = ad (200 + j)
def trQ (D : va_G) (G ad : Nat → Nat) (Kd : tK) (U : tU) (T : tT) (zz : Int32) (sz i : Nat) (post : tK → tF → tA → Prop) : Array Value → State → Outcome → State → Prop :=
  va_Qr (fun u : tM => post u.2.1 u.2.2.1 u.2.2.2) (fun u a t => cBM D G ad Kd U T zz sz u t ∧ a = u.1 (wo i)) (cReg G ad Kd U zz sz)
set_option maxHeartbeats 4000000 in
theorem trial_tail_0 {p : Program} {l : Launch} {e : Env} {s : State} {m : MethodId} {args : Array Value} {below : List Frame} {meth : Method} {c : Code} {D : va_G} {G ad0 ad : Nat → Nat} {Kd0 Kd : tK} {U : tU} {T : tT} {zz : Int32} {F : tF} {Ar : tA} {H : Heap} {locs : List Loc} {ls : Array Slot} {w : Nat} {Q : tK → tF → tA → Prop} (X : cCx p s m args meth c cX0_trial 3 RX0 D G) (hr : meth.sig.returnType = some (.object "GateRoad$Way")) (P : cP D (cReg G ad0 Kd0 U zz s.heap.size) G ad s.heap Kd U T zz F Ar H locs) (hag : (∀ k, cE G ad0 (fun _ => zz) (fun _ _ => 0) Kd0 U k ≠ none → ad k = ad0 k) ∧ ∀ j, ad (200 + j) = ad0 (200 + j)) (hi : Kd 8 = some 0) (hw : Kd w ≠ none) (hf : ∀ j, j < 16 → fits .byte (.int (Ar (wa w) j)) = true) (hq : Q Kd (beF F 8 w) (beA Ar 8 w)) (hl : lv_has ls 3 [(0, .ref (ad 0)), (1, .ref (ad (wo w))), (2, .int 0)]) : W p l e ({ frames := 5, cells := 2, slots := 19, locals := 110 }) s m args below meth c H locs 2 19 (MQ below (trQ D G ad0 Kd0 U T zz s.heap.size 8 Q) args s 2 19 (cReg G ad0 Kd0 U zz s.heap.size)) (F0 m 25 ls []) := by
  obtain ⟨hx, hb, hml, hown, hts, hK, hlk, hN⟩ := id X
  have hA : ∀ q, s.heap.size ≤ q → cReg G ad0 Kd0 U zz s.heap.size q := fun q h => Or.inr h
  refine lv_aload_n hx hb dX0_trial_25 rfl (lv_at hl 0 rfl) ?_
  refine cg_trials X P dX0_trial_26 ?_
  refine lv_iload_n hx hb dX0_trial_29 rfl (lv_at hl 2 rfl) ?_
  refine gw_aald hx hb hK P.1 2 (q0 := 19) (ty := .object "GateRoad$Way") (f := fun j => if (Kd (8 + j)).isSome = true then some (ad (wo (8 + j))) else none) (cA := G 2) (n := 6) rfl rfl rfl (vin_of (by decide)) dX0_trial_30 ?_
  have eK : (0 : Int32).toNatClampNeg = 0 := by decide
  simp only [eK, hi, Option.isSome_some, if_true]
  show W p l e ({ frames := 5, cells := 2, slots := 19, locals := 110 }) s m args below meth c H locs 2 19 _ (F0 m 31 ls (.ref (ad (wo 8)) :: []))
  refine lv_aload_n hx hb dX0_trial_31 rfl (lv_at hl 1 rfl) ?_
  refine va_callv (va_runV (C := "GateRoad$Way") (As := [.ref (ad (wo w))]) (rest := []) ⟨hx, hb, hml, hown, hts⟩ (tX8_be l D G ad Kd U T zz F Ar 8 w (by rw [hi]; exact fun z => by cases z) hw hf H.size (fun F1 A1 => F1 = beF F 8 w ∧ A1 = beA Ar 8 w) ⟨rfl, rfl⟩) (cwV 1 hts (lw_V q1134 q1135 q1136 q89 q1143) rfl rfl rfl (by decide +kernel) ⟨Nat.le_of_ble_eq_true rfl, Nat.le_of_ble_eq_true rfl⟩) ⟨c_blind, va_recv hK (gw_one P.1 (cE_way (G := G) (ad := ad) (F := F) (Ar := Ar) (U := U) (by decide) hi)) (ci := 2) (q0 := 0) rfl rfl, fun V hV hW => ⟨rfl, by rw [hV], by rw [hV]; exact P.1, ⟨P.2.1.1, fun _ _ => trivial⟩, P.2.2.2, va_K.moved hW.alike hK, cNw.warm hW hN⟩⟩ rfl rfl hl.1 rfl (lv_room (Nat.le_of_ble_eq_true rfl)) dX0_trial_32 ⟨Nat.le_of_ble_eq_true rfl, Nat.le_of_ble_eq_true rfl⟩) P.2.2.1 (fun q _ h => P.regA hA q h) (fun q h => P.regA hA q h) (fun u t H1 locs1 ht hvm hp hB _ _ hS => ?_)
  have P := c_afterA P ht hB hS
  obtain ⟨u1, u2⟩ := u
  obtain ⟨e1, e2⟩ := hp
  simp only at e1 e2 P
  subst e1
  subst e2
  generalize H1 = H at P hS ⊢
  generalize locs1 = locs at P hS ⊢
  refine lv_aload_n hx hb dX0_trial_35 rfl (lv_at hl 0 rfl) ?_
  refine cg_trials X P dX0_trial_36 ?_
  refine lv_iload_n hx hb dX0_trial_39 rfl (lv_at hl 2 rfl) ?_
  refine gw_aald hx hb hK P.1 2 (q0 := 19) (ty := .object "GateRoad$Way") (f := fun j => if (Kd (8 + j)).isSome = true then some (ad (wo (8 + j))) else none) (cA := G 2) (n := 6) rfl rfl rfl (vin_of (by decide)) dX0_trial_40 ?_
  simp only [eK, hi, Option.isSome_some, if_true]
  show W p l e ({ frames := 5, cells := 2, slots := 19, locals := 110 }) s m args below meth c H locs 2 19 _ (F0 m 41 ls (.ref (ad (wo 8)) :: []))
  exact W.aret hx hb hr (Or.inl ⟨_, rfl⟩) (Or.inr ⟨_, rfl⟩) (fun t ht hW => ⟨⟨(ad, Kd, beF F 8 w, beA Ar 8 w), _, rfl, hq, ⟨by show gw_P _ _ _ _ t.heap; rw [ht]; exact P.1, P.2.1, P.2.2.2, hag⟩, rfl⟩, P.2.2.1.F ht⟩) P.2.2.1.2.2 dX0_trial_41 hlk
set_option maxHeartbeats 4000000 in
theorem tX0_trial_0 (l : Launch) (D : va_G) (G ad : Nat → Nat) (Kd : tK) (U : tU) (T : tT) (zz : Int32) (F : tF) (Ar : tA) (w : Nat) (hk : Kd w = some 0) (hf : ∀ j, j < 16 → fits .byte (.int (Ar (wa w) j)) = true) (sz : Nat) (Q : tK → tF → tA → Prop) (hq1 : Kd 8 = none → Q (va_up Kd 8 (some 0)) (beF (nwF F 8 (-1)) 8 w) (beA (nwA Ar 8) 8 w)) (hq2 : Kd 8 = some 0 → Q Kd (beF F 8 w) (beA Ar 8 w)) (h8 : ∀ k, Kd 8 = some k → k = 0) : Met l yX0_trial (ws_ yX0_trial cX0_trial 3 (some (.object "GateRoad$Way"))) ({ frames := 5, cells := 2, slots := 19, locals := 110 }) (va_Pc [.ref (ad 0), .ref (ad (wo w))] (cPb D G ad Kd U T zz F Ar sz)) (trQ D G ad Kd U T zz sz 8 Q) 2 19 (cReg G ad Kd U zz sz) := by
  refine c_entry (by decide) (Nat.le_of_ble_eq_true rfl) ?_
  intro p e s m args below meth c ls X hr hsz P hl
  subst hsz
  have X : cCx p s m args meth c cX0_trial 3 RX0 D G := X
  obtain ⟨hx, hb, hml, hown, hts, hK, hlk, hN⟩ := id X
  have hl : lv_has ls 3 [(0, .ref (ad 0)), (1, .ref (ad (wo w)))] := hl
  have hw : Kd w ≠ none := by rw [hk]; exact fun z => by cases z
  have hA : ∀ q, s.heap.size ≤ q → cReg G ad Kd U zz s.heap.size q := fun q h => Or.inr h
  refine lv_aload_n hx hb dX0_trial_0 rfl (lv_at hl 1 rfl) ?_
  refine c_v_kind X P hw ⟨Nat.le_of_ble_eq_true rfl, Nat.le_of_ble_eq_true rfl⟩ hl.1 (Nat.le_of_ble_eq_true rfl) ⟨Nat.zero_le _, Nat.zero_le _⟩ dX0_trial_1 ?_
  have ek : kindV (kdOf Kd w) = 0 := by unfold kdOf; rw [hk]; rfl
  rw [ek]
  refine lv_istore_n (lv' := [(2, .int 0), (0, .ref (ad 0)), (1, .ref (ad (wo w)))]) hx hb dX0_trial_4 rfl hl (by decide) rfl (fun ls hl => ?_)
  refine lv_aload_n hx hb dX0_trial_5 rfl (lv_at hl 1 rfl) ?_
  refine cg_trials X P dX0_trial_6 ?_
  refine lv_iload_n hx hb dX0_trial_9 rfl (lv_at hl 0 rfl) ?_
  refine gw_aald hx hb hK P.1 2 (q0 := 19) (ty := .object "GateRoad$Way") (f := fun j => if (Kd (8 + j)).isSome = true then some (ad (wo (8 + j))) else none) (cA := G 2) (n := 6) rfl rfl rfl (vin_of (by decide)) dX0_trial_10 ?_
  have eK : (0 : Int32).toNatClampNeg = 0 := by decide
  cases hi : Kd 8 with
  | some k0 =>
    have h9 := h8 k0 hi
    subst h9
    simp only [eK, hi, Option.isSome_some, if_true]
    refine W.widen (k := 2) (n := 19) (Nat.zero_le _) (Nat.zero_le _) ?_
    show W p l e ({ frames := 5, cells := 2, slots := 19, locals := 110 }) s m args below meth c s.heap [] 2 19 _ (F0 m 11 ls (.ref (ad (wo 8)) :: []))
    refine lv_ifnonnull (tgt := 25) hx hb dX0_trial_11 (by decide) ?_
    exact trial_tail_0 X hr P ⟨fun _ _ => rfl, fun _ => rfl⟩ hi hw hf (hq2 hi) (lv_sub hl [1, 2, 0] rfl)
  | none =>
    simp only [eK, hi, Option.isSome_none, if_false, Bool.false_eq_true]
    show W p l e ({ frames := 5, cells := 2, slots := 19, locals := 110 }) s m args below meth c s.heap [] 0 0 _ (F0 m 11 ls (.null :: []))
    refine lv_ifnonnullN hx hb dX0_trial_11 ?_
    refine lv_aload_n hx hb dX0_trial_14 rfl (lv_at hl 1 rfl) ?_
    refine cg_trials X P dX0_trial_15 ?_
    refine lv_iload_n hx hb dX0_trial_18 rfl (lv_at hl 0 rfl) ?_
    refine lv_iload_n hx hb dX0_trial_19 rfl (lv_at hl 0 rfl) ?_
    refine lv_iconst (v := -1) hx hb dX0_trial_20 (by decide) ?_
    refine va_callr (va_runS (As := [.int 0, .int (-1)]) (rest := [.int 0, .ref (ad 19)]) ⟨hx, hb, hml, hown, hts⟩ (tX0_made_0 l D G s.heap.size (-1)) (va_cwS 2 hts (lw_S q800 q801 q64 q802) rfl rfl rfl (by decide +kernel) ⟨Nat.le_of_ble_eq_true rfl, Nat.le_of_ble_eq_true rfl⟩) ⟨md_blind, fun V hV hW => ⟨rfl, by rw [hV], va_K.moved hW.alike (hK.sub [1] rfl)⟩⟩ rfl rfl hl.1 rfl (lv_room (Nat.le_of_ble_eq_true rfl)) dX0_trial_21 ⟨Nat.le_of_ble_eq_true rfl, Nat.le_of_ble_eq_true rfl⟩) P.2.2.1 (fun q _ h => hA q h) (fun q h => hA q h) (fun b a t H1 locs1 ht hvm _ hB hz hkp hS => ?_)
    obtain ⟨hP1, ha, hb2, hab⟩ := hB
    rw [ht] at hP1
    have hold : ∀ q : Nat, q < s.heap.size → H1[q]? = s.heap[q]? := fun q h => hkp q h (Nat.not_le.mpr h)
    have no1 : cE G ad F Ar Kd U (wo 8) = none := by
      rw [cE_ob (cArr_wo (by decide))]
      show Option.map _ (Kd 8) = none
      rw [hi]
      rfl
    have no2 : cE G ad F Ar Kd U (wa 8) = none := by
      have e0 : cArr Kd (wa 8) = none := by show Option.map _ (Kd 8) = none; rw [hi]; rfl
      rw [cE_ob e0]
      rfl
    have G1 := P.1.grow (k := wo 8) no1 hold (hP1 0 _ rfl)
    have D1 := P.2.1.grow (k := wo 8) (x := .inr (2, [.int (-1), .ref b, .int 0])) (hA a ha) (fun j hj => by
      cases hc : cE G ad F Ar Kd U j with
      | none => exact absurd hc hj
      | some y => have := (P.1 j y hc).lt; intro z; have z : ad j = a := z; have this : ad j < s.heap.size := this; omega)
    have G2 := G1.grow (H1 := H1) (k := wa 8) (a := b) (x := .inl (G 1, 16, .inl (fun _ => 0))) (by unfold gw_set; rw [if_neg (by decide)]; exact no2) (fun _ _ => rfl) (hP1 1 _ rfl)
    have D2 := D1.grow (k := wa 8) (a := b) (x := .inl (G 1, 16, .inl (fun _ => 0))) (hA b hb2) (fun j hj => by
      by_cases e9 : j = wo 8
      · subst e9; simp [va_up]; exact hab
      · simp only [gw_set, if_neg e9] at hj
        simp only [va_up, if_neg e9]
        cases hc : cE G ad F Ar Kd U j with
        | none => exact absurd hc hj
        | some y => have := (P.1 j y hc).lt; intro z; have z : ad j = b := z; have this : ad j < s.heap.size := this; omega)
    have e19 : nwAd ad 8 a b 19 = ad 19 := nwAd_n (by decide) (by decide)
    have e0 : nwAd ad 8 a b 0 = ad 0 := nwAd_n (by decide) (by decide)
    have hne : w ≠ 8 := by intro z; rw [z, hi] at hk; cases hk
    have ew : nwAd ad 8 a b (wo w) = ad (wo w) := nwAd_n (by show 100 + 2 * w ≠ 100 + 2 * 8; omega) (by show 100 + 2 * w ≠ 101 + 2 * 8; omega)
    rw [← e19]
    refine gw_aast hx hb hK G2 D2 hS 2 (q0 := 19) (C := "GateRoad$Way") (f := fun j => if (Kd (8 + j)).isSome = true then some (ad (wo (8 + j))) else none) (cA := G 2) (n := 6) rfl rfl (way_any hK hN (kd := 0) (by decide) (hP1 0 _ rfl)) (vin_of (by decide)) dX0_trial_24 (fun H2 locs2 hP2 hD2 hS2 _ => ?_)
    rw [eK] at hP2 hD2
    have eg := cE_grown (G := G) (ad := ad) (F := F) (Ar := Ar) (Kd := Kd) (U := U) (i := 8) (kd := 0) (a := a) (b := b) (num := -1) rfl (by decide) hi P.2.2.2.1.2.1
    have hP2 : gw_P D vcl (nwAd ad 8 a b) (cE G (nwAd ad 8 a b) (nwF F 8 (-1)) (nwA Ar 8) (va_up Kd 8 (some 0)) U) H2 := by rw [← eg]; exact hP2
    have hD2 : gw_D (cReg G ad Kd U zz s.heap.size) (nwAd ad 8 a b) (cE G (nwAd ad 8 a b) (nwF F 8 (-1)) (nwA Ar 8) (va_up Kd 8 (some 0)) U) := by rw [← eg]; exact hD2
    have e32 : nwF F 8 (-1) 32 = F 32 := by simp [nwF, upd]
    have e28 : nwF F 8 (-1) 28 = F 28 := by simp [nwF, upd]
    have P2 : cP D (cReg G ad Kd U zz s.heap.size) G (nwAd ad 8 a b) s.heap (va_up Kd 8 (some 0)) U T zz (nwF F 8 (-1)) (nwA Ar 8) H2 locs2 := ⟨hP2, hD2, hS2, cWf_new P.2.2.2.1 e32 rfl (by decide), cTx_ad (fun k => nwAd_n (by show 200 + k ≠ 100 + 2 * 8; omega) (by show 200 + k ≠ 101 + 2 * 8; omega)) e28 P.2.2.2.2.1, by rw [e32]; exact P.2.2.2.2.2⟩
    refine W.widen (k := 2) (n := 19) (Nat.le_of_ble_eq_true rfl) (Nat.le_of_ble_eq_true rfl) ?_
    refine trial_tail_0 X hr P2 ⟨fun k hk0 => ?_, fun j => nwAd_n (by show 200 + j ≠ 100 + 2 * 8; omega) (by show 200 + j ≠ 101 + 2 * 8; omega)⟩ (by simp [va_up]) (by simp [va_up, hne]; exact hw) (fun j hj => ?_) (hq1 hi) ?_
    · refine nwAd_n (fun z => ?_) (fun z => ?_)
      · subst z; exact absurd (cE_dom (F := fun _ => zz) (Ar := fun _ _ => 0) (F2 := F) (Ar2 := Ar) P.2.2.2.2.2 hk0) (fun h => h no1)
      · subst z; exact absurd (cE_dom (F := fun _ => zz) (Ar := fun _ _ => 0) (F2 := F) (Ar2 := Ar) P.2.2.2.2.2 hk0) (fun h => h no2)
    · have : nwA Ar 8 (wa w) = Ar (wa w) := by
        simp only [nwA, aput]
        rw [if_neg (by show ¬ 101 + 2 * w = 101 + 2 * 8; omega)]
      rw [this]
      exact hf j hj
    · rw [e0, ew]
      exact lv_sub hl [1, 2, 0] rfl

set_option maxHeartbeats 4000000 in
theorem trial_tail_1 {p : Program} {l : Launch} {e : Env} {s : State} {m : MethodId} {args : Array Value} {below : List Frame} {meth : Method} {c : Code} {D : va_G} {G ad0 ad : Nat → Nat} {Kd0 Kd : tK} {U : tU} {T : tT} {zz : Int32} {F : tF} {Ar : tA} {H : Heap} {locs : List Loc} {ls : Array Slot} {w : Nat} {Q : tK → tF → tA → Prop} (X : cCx p s m args meth c cX0_trial 3 RX0 D G) (hr : meth.sig.returnType = some (.object "GateRoad$Way")) (P : cP D (cReg G ad0 Kd0 U zz s.heap.size) G ad s.heap Kd U T zz F Ar H locs) (hag : (∀ k, cE G ad0 (fun _ => zz) (fun _ _ => 0) Kd0 U k ≠ none → ad k = ad0 k) ∧ ∀ j, ad (200 + j) = ad0 (200 + j)) (hi : Kd 9 = some 1) (hw : Kd w ≠ none) (hf : ∀ j, j < 16 → fits .byte (.int (Ar (wa w) j)) = true) (hq : Q Kd (beF F 9 w) (beA Ar 9 w)) (hl : lv_has ls 3 [(0, .ref (ad 0)), (1, .ref (ad (wo w))), (2, .int 1)]) : W p l e ({ frames := 5, cells := 2, slots := 19, locals := 110 }) s m args below meth c H locs 2 19 (MQ below (trQ D G ad0 Kd0 U T zz s.heap.size 9 Q) args s 2 19 (cReg G ad0 Kd0 U zz s.heap.size)) (F0 m 25 ls []) := by
  obtain ⟨hx, hb, hml, hown, hts, hK, hlk, hN⟩ := id X
  have hA : ∀ q, s.heap.size ≤ q → cReg G ad0 Kd0 U zz s.heap.size q := fun q h => Or.inr h
  refine lv_aload_n hx hb dX0_trial_25 rfl (lv_at hl 0 rfl) ?_
  refine cg_trials X P dX0_trial_26 ?_
  refine lv_iload_n hx hb dX0_trial_29 rfl (lv_at hl 2 rfl) ?_
  refine gw_aald hx hb hK P.1 2 (q0 := 19) (ty := .object "GateRoad$Way") (f := fun j => if (Kd (8 + j)).isSome = true then some (ad (wo (8 + j))) else none) (cA := G 2) (n := 6) rfl rfl rfl (vin_of (by decide)) dX0_trial_30 ?_
  have eK : (1 : Int32).toNatClampNeg = 1 := by decide
  simp only [eK, hi, Option.isSome_some, if_true]
  show W p l e ({ frames := 5, cells := 2, slots := 19, locals := 110 }) s m args below meth c H locs 2 19 _ (F0 m 31 ls (.ref (ad (wo 9)) :: []))
  refine lv_aload_n hx hb dX0_trial_31 rfl (lv_at hl 1 rfl) ?_
  refine va_callv (va_runU (C := "GateRoad$Tolled") (As := [.ref (ad (wo w))]) (rest := []) ⟨hx, hb, hml, hown, hts⟩ (tX8_be l D G ad Kd U T zz F Ar 9 w (by rw [hi]; exact fun z => by cases z) hw hf H.size (fun F1 A1 => F1 = beF F 9 w ∧ A1 = beA Ar 9 w) ⟨rfl, rfl⟩) (va_cwU (owner := "GateRoad$Way") 1 hts (lw_Up (x := yX8_be) q1134 q1137 q1142 q1135 q89 q1143) rfl rfl rfl rfl (by decide +kernel) ⟨Nat.le_of_ble_eq_true rfl, Nat.le_of_ble_eq_true rfl⟩) ⟨c_blind, va_recv hK (gw_one P.1 (cE_way (G := G) (ad := ad) (F := F) (Ar := Ar) (U := U) (by decide) hi)) (ci := 3) (q0 := 0) rfl rfl, fun V hV hW => ⟨rfl, by rw [hV], by rw [hV]; exact P.1, ⟨P.2.1.1, fun _ _ => trivial⟩, P.2.2.2, va_K.moved hW.alike hK, cNw.warm hW hN⟩⟩ rfl rfl hl.1 rfl (lv_room (Nat.le_of_ble_eq_true rfl)) dX0_trial_32 ⟨Nat.le_of_ble_eq_true rfl, Nat.le_of_ble_eq_true rfl⟩) P.2.2.1 (fun q _ h => P.regA hA q h) (fun q h => P.regA hA q h) (fun u t H1 locs1 ht hvm hp hB _ _ hS => ?_)
  have P := c_afterA P ht hB hS
  obtain ⟨u1, u2⟩ := u
  obtain ⟨e1, e2⟩ := hp
  simp only at e1 e2 P
  subst e1
  subst e2
  generalize H1 = H at P hS ⊢
  generalize locs1 = locs at P hS ⊢
  refine lv_aload_n hx hb dX0_trial_35 rfl (lv_at hl 0 rfl) ?_
  refine cg_trials X P dX0_trial_36 ?_
  refine lv_iload_n hx hb dX0_trial_39 rfl (lv_at hl 2 rfl) ?_
  refine gw_aald hx hb hK P.1 2 (q0 := 19) (ty := .object "GateRoad$Way") (f := fun j => if (Kd (8 + j)).isSome = true then some (ad (wo (8 + j))) else none) (cA := G 2) (n := 6) rfl rfl rfl (vin_of (by decide)) dX0_trial_40 ?_
  simp only [eK, hi, Option.isSome_some, if_true]
  show W p l e ({ frames := 5, cells := 2, slots := 19, locals := 110 }) s m args below meth c H locs 2 19 _ (F0 m 41 ls (.ref (ad (wo 9)) :: []))
  exact W.aret hx hb hr (Or.inl ⟨_, rfl⟩) (Or.inr ⟨_, rfl⟩) (fun t ht hW => ⟨⟨(ad, Kd, beF F 9 w, beA Ar 9 w), _, rfl, hq, ⟨by show gw_P _ _ _ _ t.heap; rw [ht]; exact P.1, P.2.1, P.2.2.2, hag⟩, rfl⟩, P.2.2.1.F ht⟩) P.2.2.1.2.2 dX0_trial_41 hlk
set_option maxHeartbeats 4000000 in
theorem tX0_trial_1 (l : Launch) (D : va_G) (G ad : Nat → Nat) (Kd : tK) (U : tU) (T : tT) (zz : Int32) (F : tF) (Ar : tA) (w : Nat) (hk : Kd w = some 1) (hf : ∀ j, j < 16 → fits .byte (.int (Ar (wa w) j)) = true) (sz : Nat) (Q : tK → tF → tA → Prop) (hq1 : Kd 9 = none → Q (va_up Kd 9 (some 1)) (beF (nwF F 9 (-1)) 9 w) (beA (nwA Ar 9) 9 w)) (hq2 : Kd 9 = some 1 → Q Kd (beF F 9 w) (beA Ar 9 w)) (h8 : ∀ k, Kd 9 = some k → k = 1) : Met l yX0_trial (ws_ yX0_trial cX0_trial 3 (some (.object "GateRoad$Way"))) ({ frames := 5, cells := 2, slots := 19, locals := 110 }) (va_Pc [.ref (ad 0), .ref (ad (wo w))] (cPb D G ad Kd U T zz F Ar sz)) (trQ D G ad Kd U T zz sz 9 Q) 2 19 (cReg G ad Kd U zz sz) := by
  refine c_entry (by decide) (Nat.le_of_ble_eq_true rfl) ?_
  intro p e s m args below meth c ls X hr hsz P hl
  subst hsz
  have X : cCx p s m args meth c cX0_trial 3 RX0 D G := X
  obtain ⟨hx, hb, hml, hown, hts, hK, hlk, hN⟩ := id X
  have hl : lv_has ls 3 [(0, .ref (ad 0)), (1, .ref (ad (wo w)))] := hl
  have hw : Kd w ≠ none := by rw [hk]; exact fun z => by cases z
  have hA : ∀ q, s.heap.size ≤ q → cReg G ad Kd U zz s.heap.size q := fun q h => Or.inr h
  refine lv_aload_n hx hb dX0_trial_0 rfl (lv_at hl 1 rfl) ?_
  refine c_v_kind X P hw ⟨Nat.le_of_ble_eq_true rfl, Nat.le_of_ble_eq_true rfl⟩ hl.1 (Nat.le_of_ble_eq_true rfl) ⟨Nat.zero_le _, Nat.zero_le _⟩ dX0_trial_1 ?_
  have ek : kindV (kdOf Kd w) = 1 := by unfold kdOf; rw [hk]; rfl
  rw [ek]
  refine lv_istore_n (lv' := [(2, .int 1), (0, .ref (ad 0)), (1, .ref (ad (wo w)))]) hx hb dX0_trial_4 rfl hl (by decide) rfl (fun ls hl => ?_)
  refine lv_aload_n hx hb dX0_trial_5 rfl (lv_at hl 1 rfl) ?_
  refine cg_trials X P dX0_trial_6 ?_
  refine lv_iload_n hx hb dX0_trial_9 rfl (lv_at hl 0 rfl) ?_
  refine gw_aald hx hb hK P.1 2 (q0 := 19) (ty := .object "GateRoad$Way") (f := fun j => if (Kd (8 + j)).isSome = true then some (ad (wo (8 + j))) else none) (cA := G 2) (n := 6) rfl rfl rfl (vin_of (by decide)) dX0_trial_10 ?_
  have eK : (1 : Int32).toNatClampNeg = 1 := by decide
  cases hi : Kd 9 with
  | some k0 =>
    have h9 := h8 k0 hi
    subst h9
    simp only [eK, hi, Option.isSome_some, if_true]
    refine W.widen (k := 2) (n := 19) (Nat.zero_le _) (Nat.zero_le _) ?_
    show W p l e ({ frames := 5, cells := 2, slots := 19, locals := 110 }) s m args below meth c s.heap [] 2 19 _ (F0 m 11 ls (.ref (ad (wo 9)) :: []))
    refine lv_ifnonnull (tgt := 25) hx hb dX0_trial_11 (by decide) ?_
    exact trial_tail_1 X hr P ⟨fun _ _ => rfl, fun _ => rfl⟩ hi hw hf (hq2 hi) (lv_sub hl [1, 2, 0] rfl)
  | none =>
    simp only [eK, hi, Option.isSome_none, if_false, Bool.false_eq_true]
    show W p l e ({ frames := 5, cells := 2, slots := 19, locals := 110 }) s m args below meth c s.heap [] 0 0 _ (F0 m 11 ls (.null :: []))
    refine lv_ifnonnullN hx hb dX0_trial_11 ?_
    refine lv_aload_n hx hb dX0_trial_14 rfl (lv_at hl 1 rfl) ?_
    refine cg_trials X P dX0_trial_15 ?_
    refine lv_iload_n hx hb dX0_trial_18 rfl (lv_at hl 0 rfl) ?_
    refine lv_iload_n hx hb dX0_trial_19 rfl (lv_at hl 0 rfl) ?_
    refine lv_iconst (v := -1) hx hb dX0_trial_20 (by decide) ?_
    refine va_callr (va_runS (As := [.int 1, .int (-1)]) (rest := [.int 1, .ref (ad 19)]) ⟨hx, hb, hml, hown, hts⟩ (tX0_made_1 l D G s.heap.size (-1)) (va_cwS 2 hts (lw_S q800 q801 q64 q802) rfl rfl rfl (by decide +kernel) ⟨Nat.le_of_ble_eq_true rfl, Nat.le_of_ble_eq_true rfl⟩) ⟨md_blind, fun V hV hW => ⟨rfl, by rw [hV], va_K.moved hW.alike (hK.sub [1] rfl)⟩⟩ rfl rfl hl.1 rfl (lv_room (Nat.le_of_ble_eq_true rfl)) dX0_trial_21 ⟨Nat.le_of_ble_eq_true rfl, Nat.le_of_ble_eq_true rfl⟩) P.2.2.1 (fun q _ h => hA q h) (fun q h => hA q h) (fun b a t H1 locs1 ht hvm _ hB hz hkp hS => ?_)
    obtain ⟨hP1, ha, hb2, hab⟩ := hB
    rw [ht] at hP1
    have hold : ∀ q : Nat, q < s.heap.size → H1[q]? = s.heap[q]? := fun q h => hkp q h (Nat.not_le.mpr h)
    have no1 : cE G ad F Ar Kd U (wo 9) = none := by
      rw [cE_ob (cArr_wo (by decide))]
      show Option.map _ (Kd 9) = none
      rw [hi]
      rfl
    have no2 : cE G ad F Ar Kd U (wa 9) = none := by
      have e0 : cArr Kd (wa 9) = none := by show Option.map _ (Kd 9) = none; rw [hi]; rfl
      rw [cE_ob e0]
      rfl
    have G1 := P.1.grow (k := wo 9) no1 hold (hP1 0 _ rfl)
    have D1 := P.2.1.grow (k := wo 9) (x := .inr (3, [.int (-1), .ref b, .int 0])) (hA a ha) (fun j hj => by
      cases hc : cE G ad F Ar Kd U j with
      | none => exact absurd hc hj
      | some y => have := (P.1 j y hc).lt; intro z; have z : ad j = a := z; have this : ad j < s.heap.size := this; omega)
    have G2 := G1.grow (H1 := H1) (k := wa 9) (a := b) (x := .inl (G 1, 16, .inl (fun _ => 0))) (by unfold gw_set; rw [if_neg (by decide)]; exact no2) (fun _ _ => rfl) (hP1 1 _ rfl)
    have D2 := D1.grow (k := wa 9) (a := b) (x := .inl (G 1, 16, .inl (fun _ => 0))) (hA b hb2) (fun j hj => by
      by_cases e9 : j = wo 9
      · subst e9; simp [va_up]; exact hab
      · simp only [gw_set, if_neg e9] at hj
        simp only [va_up, if_neg e9]
        cases hc : cE G ad F Ar Kd U j with
        | none => exact absurd hc hj
        | some y => have := (P.1 j y hc).lt; intro z; have z : ad j = b := z; have this : ad j < s.heap.size := this; omega)
    have e19 : nwAd ad 9 a b 19 = ad 19 := nwAd_n (by decide) (by decide)
    have e0 : nwAd ad 9 a b 0 = ad 0 := nwAd_n (by decide) (by decide)
    have hne : w ≠ 9 := by intro z; rw [z, hi] at hk; cases hk
    have ew : nwAd ad 9 a b (wo w) = ad (wo w) := nwAd_n (by show 100 + 2 * w ≠ 100 + 2 * 9; omega) (by show 100 + 2 * w ≠ 101 + 2 * 9; omega)
    rw [← e19]
    refine gw_aast hx hb hK G2 D2 hS 2 (q0 := 19) (C := "GateRoad$Way") (f := fun j => if (Kd (8 + j)).isSome = true then some (ad (wo (8 + j))) else none) (cA := G 2) (n := 6) rfl rfl (way_any hK hN (kd := 1) (by decide) (hP1 0 _ rfl)) (vin_of (by decide)) dX0_trial_24 (fun H2 locs2 hP2 hD2 hS2 _ => ?_)
    rw [eK] at hP2 hD2
    have eg := cE_grown (G := G) (ad := ad) (F := F) (Ar := Ar) (Kd := Kd) (U := U) (i := 9) (kd := 1) (a := a) (b := b) (num := -1) rfl (by decide) hi P.2.2.2.1.2.1
    have hP2 : gw_P D vcl (nwAd ad 9 a b) (cE G (nwAd ad 9 a b) (nwF F 9 (-1)) (nwA Ar 9) (va_up Kd 9 (some 1)) U) H2 := by rw [← eg]; exact hP2
    have hD2 : gw_D (cReg G ad Kd U zz s.heap.size) (nwAd ad 9 a b) (cE G (nwAd ad 9 a b) (nwF F 9 (-1)) (nwA Ar 9) (va_up Kd 9 (some 1)) U) := by rw [← eg]; exact hD2
    have e32 : nwF F 9 (-1) 32 = F 32 := by simp [nwF, upd]
    have e28 : nwF F 9 (-1) 28 = F 28 := by simp [nwF, upd]
    have P2 : cP D (cReg G ad Kd U zz s.heap.size) G (nwAd ad 9 a b) s.heap (va_up Kd 9 (some 1)) U T zz (nwF F 9 (-1)) (nwA Ar 9) H2 locs2 := ⟨hP2, hD2, hS2, cWf_new P.2.2.2.1 e32 rfl (by decide), cTx_ad (fun k => nwAd_n (by show 200 + k ≠ 100 + 2 * 9; omega) (by show 200 + k ≠ 101 + 2 * 9; omega)) e28 P.2.2.2.2.1, by rw [e32]; exact P.2.2.2.2.2⟩
    refine W.widen (k := 2) (n := 19) (Nat.le_of_ble_eq_true rfl) (Nat.le_of_ble_eq_true rfl) ?_
    refine trial_tail_1 X hr P2 ⟨fun k hk0 => ?_, fun j => nwAd_n (by show 200 + j ≠ 100 + 2 * 9; omega) (by show 200 + j ≠ 101 + 2 * 9; omega)⟩ (by simp [va_up]) (by simp [va_up, hne]; exact hw) (fun j hj => ?_) (hq1 hi) ?_
    · refine nwAd_n (fun z => ?_) (fun z => ?_)
      · subst z; exact absurd (cE_dom (F := fun _ => zz) (Ar := fun _ _ => 0) (F2 := F) (Ar2 := Ar) P.2.2.2.2.2 hk0) (fun h => h no1)
      · subst z; exact absurd (cE_dom (F := fun _ => zz) (Ar := fun _ _ => 0) (F2 := F) (Ar2 := Ar) P.2.2.2.2.2 hk0) (fun h => h no2)
    · have : nwA Ar 9 (wa w) = Ar (wa w) := by
        simp only [nwA, aput]
        rw [if_neg (by show ¬ 101 + 2 * w = 101 + 2 * 9; omega)]
      rw [this]
      exact hf j hj
    · rw [e0, ew]
      exact lv_sub hl [1, 2, 0] rfl

set_option maxHeartbeats 4000000 in
theorem trial_tail_2 {p : Program} {l : Launch} {e : Env} {s : State} {m : MethodId} {args : Array Value} {below : List Frame} {meth : Method} {c : Code} {D : va_G} {G ad0 ad : Nat → Nat} {Kd0 Kd : tK} {U : tU} {T : tT} {zz : Int32} {F : tF} {Ar : tA} {H : Heap} {locs : List Loc} {ls : Array Slot} {w : Nat} {Q : tK → tF → tA → Prop} (X : cCx p s m args meth c cX0_trial 3 RX0 D G) (hr : meth.sig.returnType = some (.object "GateRoad$Way")) (P : cP D (cReg G ad0 Kd0 U zz s.heap.size) G ad s.heap Kd U T zz F Ar H locs) (hag : (∀ k, cE G ad0 (fun _ => zz) (fun _ _ => 0) Kd0 U k ≠ none → ad k = ad0 k) ∧ ∀ j, ad (200 + j) = ad0 (200 + j)) (hi : Kd 10 = some 2) (hw : Kd w ≠ none) (hf : ∀ j, j < 16 → fits .byte (.int (Ar (wa w) j)) = true) (hq : Q Kd (beF F 10 w) (beA Ar 10 w)) (hl : lv_has ls 3 [(0, .ref (ad 0)), (1, .ref (ad (wo w))), (2, .int 2)]) : W p l e ({ frames := 5, cells := 2, slots := 19, locals := 110 }) s m args below meth c H locs 2 19 (MQ below (trQ D G ad0 Kd0 U T zz s.heap.size 10 Q) args s 2 19 (cReg G ad0 Kd0 U zz s.heap.size)) (F0 m 25 ls []) := by
  obtain ⟨hx, hb, hml, hown, hts, hK, hlk, hN⟩ := id X
  have hA : ∀ q, s.heap.size ≤ q → cReg G ad0 Kd0 U zz s.heap.size q := fun q h => Or.inr h
  refine lv_aload_n hx hb dX0_trial_25 rfl (lv_at hl 0 rfl) ?_
  refine cg_trials X P dX0_trial_26 ?_
  refine lv_iload_n hx hb dX0_trial_29 rfl (lv_at hl 2 rfl) ?_
  refine gw_aald hx hb hK P.1 2 (q0 := 19) (ty := .object "GateRoad$Way") (f := fun j => if (Kd (8 + j)).isSome = true then some (ad (wo (8 + j))) else none) (cA := G 2) (n := 6) rfl rfl rfl (vin_of (by decide)) dX0_trial_30 ?_
  have eK : (2 : Int32).toNatClampNeg = 2 := by decide
  simp only [eK, hi, Option.isSome_some, if_true]
  show W p l e ({ frames := 5, cells := 2, slots := 19, locals := 110 }) s m args below meth c H locs 2 19 _ (F0 m 31 ls (.ref (ad (wo 10)) :: []))
  refine lv_aload_n hx hb dX0_trial_31 rfl (lv_at hl 1 rfl) ?_
  refine va_callv (va_runU (C := "GateRoad$Numbered") (As := [.ref (ad (wo w))]) (rest := []) ⟨hx, hb, hml, hown, hts⟩ (tX8_be l D G ad Kd U T zz F Ar 10 w (by rw [hi]; exact fun z => by cases z) hw hf H.size (fun F1 A1 => F1 = beF F 10 w ∧ A1 = beA Ar 10 w) ⟨rfl, rfl⟩) (va_cwU (owner := "GateRoad$Way") 1 hts (lw_Up (x := yX8_be) q1134 q1137 q1140 q1135 q89 q1143) rfl rfl rfl rfl (by decide +kernel) ⟨Nat.le_of_ble_eq_true rfl, Nat.le_of_ble_eq_true rfl⟩) ⟨c_blind, va_recv hK (gw_one P.1 (cE_way (G := G) (ad := ad) (F := F) (Ar := Ar) (U := U) (by decide) hi)) (ci := 4) (q0 := 0) rfl rfl, fun V hV hW => ⟨rfl, by rw [hV], by rw [hV]; exact P.1, ⟨P.2.1.1, fun _ _ => trivial⟩, P.2.2.2, va_K.moved hW.alike hK, cNw.warm hW hN⟩⟩ rfl rfl hl.1 rfl (lv_room (Nat.le_of_ble_eq_true rfl)) dX0_trial_32 ⟨Nat.le_of_ble_eq_true rfl, Nat.le_of_ble_eq_true rfl⟩) P.2.2.1 (fun q _ h => P.regA hA q h) (fun q h => P.regA hA q h) (fun u t H1 locs1 ht hvm hp hB _ _ hS => ?_)
  have P := c_afterA P ht hB hS
  obtain ⟨u1, u2⟩ := u
  obtain ⟨e1, e2⟩ := hp
  simp only at e1 e2 P
  subst e1
  subst e2
  generalize H1 = H at P hS ⊢
  generalize locs1 = locs at P hS ⊢
  refine lv_aload_n hx hb dX0_trial_35 rfl (lv_at hl 0 rfl) ?_
  refine cg_trials X P dX0_trial_36 ?_
  refine lv_iload_n hx hb dX0_trial_39 rfl (lv_at hl 2 rfl) ?_
  refine gw_aald hx hb hK P.1 2 (q0 := 19) (ty := .object "GateRoad$Way") (f := fun j => if (Kd (8 + j)).isSome = true then some (ad (wo (8 + j))) else none) (cA := G 2) (n := 6) rfl rfl rfl (vin_of (by decide)) dX0_trial_40 ?_
  simp only [eK, hi, Option.isSome_some, if_true]
  show W p l e ({ frames := 5, cells := 2, slots := 19, locals := 110 }) s m args below meth c H locs 2 19 _ (F0 m 41 ls (.ref (ad (wo 10)) :: []))
  exact W.aret hx hb hr (Or.inl ⟨_, rfl⟩) (Or.inr ⟨_, rfl⟩) (fun t ht hW => ⟨⟨(ad, Kd, beF F 10 w, beA Ar 10 w), _, rfl, hq, ⟨by show gw_P _ _ _ _ t.heap; rw [ht]; exact P.1, P.2.1, P.2.2.2, hag⟩, rfl⟩, P.2.2.1.F ht⟩) P.2.2.1.2.2 dX0_trial_41 hlk
set_option maxHeartbeats 4000000 in
theorem tX0_trial_2 (l : Launch) (D : va_G) (G ad : Nat → Nat) (Kd : tK) (U : tU) (T : tT) (zz : Int32) (F : tF) (Ar : tA) (w : Nat) (hk : Kd w = some 2) (hf : ∀ j, j < 16 → fits .byte (.int (Ar (wa w) j)) = true) (sz : Nat) (Q : tK → tF → tA → Prop) (hq1 : Kd 10 = none → Q (va_up Kd 10 (some 2)) (beF (nwF F 10 (-1)) 10 w) (beA (nwA Ar 10) 10 w)) (hq2 : Kd 10 = some 2 → Q Kd (beF F 10 w) (beA Ar 10 w)) (h8 : ∀ k, Kd 10 = some k → k = 2) : Met l yX0_trial (ws_ yX0_trial cX0_trial 3 (some (.object "GateRoad$Way"))) ({ frames := 5, cells := 2, slots := 19, locals := 110 }) (va_Pc [.ref (ad 0), .ref (ad (wo w))] (cPb D G ad Kd U T zz F Ar sz)) (trQ D G ad Kd U T zz sz 10 Q) 2 19 (cReg G ad Kd U zz sz) := by
  refine c_entry (by decide) (Nat.le_of_ble_eq_true rfl) ?_
  intro p e s m args below meth c ls X hr hsz P hl
  subst hsz
  have X : cCx p s m args meth c cX0_trial 3 RX0 D G := X
  obtain ⟨hx, hb, hml, hown, hts, hK, hlk, hN⟩ := id X
  have hl : lv_has ls 3 [(0, .ref (ad 0)), (1, .ref (ad (wo w)))] := hl
  have hw : Kd w ≠ none := by rw [hk]; exact fun z => by cases z
  have hA : ∀ q, s.heap.size ≤ q → cReg G ad Kd U zz s.heap.size q := fun q h => Or.inr h
  refine lv_aload_n hx hb dX0_trial_0 rfl (lv_at hl 1 rfl) ?_
  refine c_v_kind X P hw ⟨Nat.le_of_ble_eq_true rfl, Nat.le_of_ble_eq_true rfl⟩ hl.1 (Nat.le_of_ble_eq_true rfl) ⟨Nat.zero_le _, Nat.zero_le _⟩ dX0_trial_1 ?_
  have ek : kindV (kdOf Kd w) = 2 := by unfold kdOf; rw [hk]; rfl
  rw [ek]
  refine lv_istore_n (lv' := [(2, .int 2), (0, .ref (ad 0)), (1, .ref (ad (wo w)))]) hx hb dX0_trial_4 rfl hl (by decide) rfl (fun ls hl => ?_)
  refine lv_aload_n hx hb dX0_trial_5 rfl (lv_at hl 1 rfl) ?_
  refine cg_trials X P dX0_trial_6 ?_
  refine lv_iload_n hx hb dX0_trial_9 rfl (lv_at hl 0 rfl) ?_
  refine gw_aald hx hb hK P.1 2 (q0 := 19) (ty := .object "GateRoad$Way") (f := fun j => if (Kd (8 + j)).isSome = true then some (ad (wo (8 + j))) else none) (cA := G 2) (n := 6) rfl rfl rfl (vin_of (by decide)) dX0_trial_10 ?_
  have eK : (2 : Int32).toNatClampNeg = 2 := by decide
  cases hi : Kd 10 with
  | some k0 =>
    have h9 := h8 k0 hi
    subst h9
    simp only [eK, hi, Option.isSome_some, if_true]
    refine W.widen (k := 2) (n := 19) (Nat.zero_le _) (Nat.zero_le _) ?_
    show W p l e ({ frames := 5, cells := 2, slots := 19, locals := 110 }) s m args below meth c s.heap [] 2 19 _ (F0 m 11 ls (.ref (ad (wo 10)) :: []))
    refine lv_ifnonnull (tgt := 25) hx hb dX0_trial_11 (by decide) ?_
    exact trial_tail_2 X hr P ⟨fun _ _ => rfl, fun _ => rfl⟩ hi hw hf (hq2 hi) (lv_sub hl [1, 2, 0] rfl)
  | none =>
    simp only [eK, hi, Option.isSome_none, if_false, Bool.false_eq_true]
    show W p l e ({ frames := 5, cells := 2, slots := 19, locals := 110 }) s m args below meth c s.heap [] 0 0 _ (F0 m 11 ls (.null :: []))
    refine lv_ifnonnullN hx hb dX0_trial_11 ?_
    refine lv_aload_n hx hb dX0_trial_14 rfl (lv_at hl 1 rfl) ?_
    refine cg_trials X P dX0_trial_15 ?_
    refine lv_iload_n hx hb dX0_trial_18 rfl (lv_at hl 0 rfl) ?_
    refine lv_iload_n hx hb dX0_trial_19 rfl (lv_at hl 0 rfl) ?_
    refine lv_iconst (v := -1) hx hb dX0_trial_20 (by decide) ?_
    refine va_callr (va_runS (As := [.int 2, .int (-1)]) (rest := [.int 2, .ref (ad 19)]) ⟨hx, hb, hml, hown, hts⟩ (tX0_made_2 l D G s.heap.size (-1)) (va_cwS 2 hts (lw_S q800 q801 q64 q802) rfl rfl rfl (by decide +kernel) ⟨Nat.le_of_ble_eq_true rfl, Nat.le_of_ble_eq_true rfl⟩) ⟨md_blind, fun V hV hW => ⟨rfl, by rw [hV], va_K.moved hW.alike (hK.sub [1] rfl)⟩⟩ rfl rfl hl.1 rfl (lv_room (Nat.le_of_ble_eq_true rfl)) dX0_trial_21 ⟨Nat.le_of_ble_eq_true rfl, Nat.le_of_ble_eq_true rfl⟩) P.2.2.1 (fun q _ h => hA q h) (fun q h => hA q h) (fun b a t H1 locs1 ht hvm _ hB hz hkp hS => ?_)
    obtain ⟨hP1, ha, hb2, hab⟩ := hB
    rw [ht] at hP1
    have hold : ∀ q : Nat, q < s.heap.size → H1[q]? = s.heap[q]? := fun q h => hkp q h (Nat.not_le.mpr h)
    have no1 : cE G ad F Ar Kd U (wo 10) = none := by
      rw [cE_ob (cArr_wo (by decide))]
      show Option.map _ (Kd 10) = none
      rw [hi]
      rfl
    have no2 : cE G ad F Ar Kd U (wa 10) = none := by
      have e0 : cArr Kd (wa 10) = none := by show Option.map _ (Kd 10) = none; rw [hi]; rfl
      rw [cE_ob e0]
      rfl
    have G1 := P.1.grow (k := wo 10) no1 hold (hP1 0 _ rfl)
    have D1 := P.2.1.grow (k := wo 10) (x := .inr (4, [.int (-1), .ref b, .int 0])) (hA a ha) (fun j hj => by
      cases hc : cE G ad F Ar Kd U j with
      | none => exact absurd hc hj
      | some y => have := (P.1 j y hc).lt; intro z; have z : ad j = a := z; have this : ad j < s.heap.size := this; omega)
    have G2 := G1.grow (H1 := H1) (k := wa 10) (a := b) (x := .inl (G 1, 16, .inl (fun _ => 0))) (by unfold gw_set; rw [if_neg (by decide)]; exact no2) (fun _ _ => rfl) (hP1 1 _ rfl)
    have D2 := D1.grow (k := wa 10) (a := b) (x := .inl (G 1, 16, .inl (fun _ => 0))) (hA b hb2) (fun j hj => by
      by_cases e9 : j = wo 10
      · subst e9; simp [va_up]; exact hab
      · simp only [gw_set, if_neg e9] at hj
        simp only [va_up, if_neg e9]
        cases hc : cE G ad F Ar Kd U j with
        | none => exact absurd hc hj
        | some y => have := (P.1 j y hc).lt; intro z; have z : ad j = b := z; have this : ad j < s.heap.size := this; omega)
    have e19 : nwAd ad 10 a b 19 = ad 19 := nwAd_n (by decide) (by decide)
    have e0 : nwAd ad 10 a b 0 = ad 0 := nwAd_n (by decide) (by decide)
    have hne : w ≠ 10 := by intro z; rw [z, hi] at hk; cases hk
    have ew : nwAd ad 10 a b (wo w) = ad (wo w) := nwAd_n (by show 100 + 2 * w ≠ 100 + 2 * 10; omega) (by show 100 + 2 * w ≠ 101 + 2 * 10; omega)
    rw [← e19]
    refine gw_aast hx hb hK G2 D2 hS 2 (q0 := 19) (C := "GateRoad$Way") (f := fun j => if (Kd (8 + j)).isSome = true then some (ad (wo (8 + j))) else none) (cA := G 2) (n := 6) rfl rfl (way_any hK hN (kd := 2) (by decide) (hP1 0 _ rfl)) (vin_of (by decide)) dX0_trial_24 (fun H2 locs2 hP2 hD2 hS2 _ => ?_)
    rw [eK] at hP2 hD2
    have eg := cE_grown (G := G) (ad := ad) (F := F) (Ar := Ar) (Kd := Kd) (U := U) (i := 10) (kd := 2) (a := a) (b := b) (num := -1) rfl (by decide) hi P.2.2.2.1.2.1
    have hP2 : gw_P D vcl (nwAd ad 10 a b) (cE G (nwAd ad 10 a b) (nwF F 10 (-1)) (nwA Ar 10) (va_up Kd 10 (some 2)) U) H2 := by rw [← eg]; exact hP2
    have hD2 : gw_D (cReg G ad Kd U zz s.heap.size) (nwAd ad 10 a b) (cE G (nwAd ad 10 a b) (nwF F 10 (-1)) (nwA Ar 10) (va_up Kd 10 (some 2)) U) := by rw [← eg]; exact hD2
    have e32 : nwF F 10 (-1) 32 = F 32 := by simp [nwF, upd]
    have e28 : nwF F 10 (-1) 28 = F 28 := by simp [nwF, upd]
    have P2 : cP D (cReg G ad Kd U zz s.heap.size) G (nwAd ad 10 a b) s.heap (va_up Kd 10 (some 2)) U T zz (nwF F 10 (-1)) (nwA Ar 10) H2 locs2 := ⟨hP2, hD2, hS2, cWf_new P.2.2.2.1 e32 rfl (by decide), cTx_ad (fun k => nwAd_n (by show 200 + k ≠ 100 + 2 * 10; omega) (by show 200 + k ≠ 101 + 2 * 10; omega)) e28 P.2.2.2.2.1, by rw [e32]; exact P.2.2.2.2.2⟩
    refine W.widen (k := 2) (n := 19) (Nat.le_of_ble_eq_true rfl) (Nat.le_of_ble_eq_true rfl) ?_
    refine trial_tail_2 X hr P2 ⟨fun k hk0 => ?_, fun j => nwAd_n (by show 200 + j ≠ 100 + 2 * 10; omega) (by show 200 + j ≠ 101 + 2 * 10; omega)⟩ (by simp [va_up]) (by simp [va_up, hne]; exact hw) (fun j hj => ?_) (hq1 hi) ?_
    · refine nwAd_n (fun z => ?_) (fun z => ?_)
      · subst z; exact absurd (cE_dom (F := fun _ => zz) (Ar := fun _ _ => 0) (F2 := F) (Ar2 := Ar) P.2.2.2.2.2 hk0) (fun h => h no1)
      · subst z; exact absurd (cE_dom (F := fun _ => zz) (Ar := fun _ _ => 0) (F2 := F) (Ar2 := Ar) P.2.2.2.2.2 hk0) (fun h => h no2)
    · have : nwA Ar 10 (wa w) = Ar (wa w) := by
        simp only [nwA, aput]
        rw [if_neg (by show ¬ 101 + 2 * w = 101 + 2 * 10; omega)]
      rw [this]
      exact hf j hj
    · rw [e0, ew]
      exact lv_sub hl [1, 2, 0] rfl

set_option maxHeartbeats 4000000 in
theorem trial_tail_3 {p : Program} {l : Launch} {e : Env} {s : State} {m : MethodId} {args : Array Value} {below : List Frame} {meth : Method} {c : Code} {D : va_G} {G ad0 ad : Nat → Nat} {Kd0 Kd : tK} {U : tU} {T : tT} {zz : Int32} {F : tF} {Ar : tA} {H : Heap} {locs : List Loc} {ls : Array Slot} {w : Nat} {Q : tK → tF → tA → Prop} (X : cCx p s m args meth c cX0_trial 3 RX0 D G) (hr : meth.sig.returnType = some (.object "GateRoad$Way")) (P : cP D (cReg G ad0 Kd0 U zz s.heap.size) G ad s.heap Kd U T zz F Ar H locs) (hag : (∀ k, cE G ad0 (fun _ => zz) (fun _ _ => 0) Kd0 U k ≠ none → ad k = ad0 k) ∧ ∀ j, ad (200 + j) = ad0 (200 + j)) (hi : Kd 11 = some 3) (hw : Kd w ≠ none) (hf : ∀ j, j < 16 → fits .byte (.int (Ar (wa w) j)) = true) (hq : Q Kd (beF F 11 w) (beA Ar 11 w)) (hl : lv_has ls 3 [(0, .ref (ad 0)), (1, .ref (ad (wo w))), (2, .int 3)]) : W p l e ({ frames := 5, cells := 2, slots := 19, locals := 110 }) s m args below meth c H locs 2 19 (MQ below (trQ D G ad0 Kd0 U T zz s.heap.size 11 Q) args s 2 19 (cReg G ad0 Kd0 U zz s.heap.size)) (F0 m 25 ls []) := by
  obtain ⟨hx, hb, hml, hown, hts, hK, hlk, hN⟩ := id X
  have hA : ∀ q, s.heap.size ≤ q → cReg G ad0 Kd0 U zz s.heap.size q := fun q h => Or.inr h
  refine lv_aload_n hx hb dX0_trial_25 rfl (lv_at hl 0 rfl) ?_
  refine cg_trials X P dX0_trial_26 ?_
  refine lv_iload_n hx hb dX0_trial_29 rfl (lv_at hl 2 rfl) ?_
  refine gw_aald hx hb hK P.1 2 (q0 := 19) (ty := .object "GateRoad$Way") (f := fun j => if (Kd (8 + j)).isSome = true then some (ad (wo (8 + j))) else none) (cA := G 2) (n := 6) rfl rfl rfl (vin_of (by decide)) dX0_trial_30 ?_
  have eK : (3 : Int32).toNatClampNeg = 3 := by decide
  simp only [eK, hi, Option.isSome_some, if_true]
  show W p l e ({ frames := 5, cells := 2, slots := 19, locals := 110 }) s m args below meth c H locs 2 19 _ (F0 m 31 ls (.ref (ad (wo 11)) :: []))
  refine lv_aload_n hx hb dX0_trial_31 rfl (lv_at hl 1 rfl) ?_
  refine va_callv (va_runU (C := "GateRoad$Drawn") (As := [.ref (ad (wo w))]) (rest := []) ⟨hx, hb, hml, hown, hts⟩ (tX8_be l D G ad Kd U T zz F Ar 11 w (by rw [hi]; exact fun z => by cases z) hw hf H.size (fun F1 A1 => F1 = beF F 11 w ∧ A1 = beA Ar 11 w) ⟨rfl, rfl⟩) (va_cwU (owner := "GateRoad$Way") 1 hts (lw_Up (x := yX8_be) q1134 q1137 q1138 q1135 q89 q1143) rfl rfl rfl rfl (by decide +kernel) ⟨Nat.le_of_ble_eq_true rfl, Nat.le_of_ble_eq_true rfl⟩) ⟨c_blind, va_recv hK (gw_one P.1 (cE_way (G := G) (ad := ad) (F := F) (Ar := Ar) (U := U) (by decide) hi)) (ci := 5) (q0 := 0) rfl rfl, fun V hV hW => ⟨rfl, by rw [hV], by rw [hV]; exact P.1, ⟨P.2.1.1, fun _ _ => trivial⟩, P.2.2.2, va_K.moved hW.alike hK, cNw.warm hW hN⟩⟩ rfl rfl hl.1 rfl (lv_room (Nat.le_of_ble_eq_true rfl)) dX0_trial_32 ⟨Nat.le_of_ble_eq_true rfl, Nat.le_of_ble_eq_true rfl⟩) P.2.2.1 (fun q _ h => P.regA hA q h) (fun q h => P.regA hA q h) (fun u t H1 locs1 ht hvm hp hB _ _ hS => ?_)
  have P := c_afterA P ht hB hS
  obtain ⟨u1, u2⟩ := u
  obtain ⟨e1, e2⟩ := hp
  simp only at e1 e2 P
  subst e1
  subst e2
  generalize H1 = H at P hS ⊢
  generalize locs1 = locs at P hS ⊢
  refine lv_aload_n hx hb dX0_trial_35 rfl (lv_at hl 0 rfl) ?_
  refine cg_trials X P dX0_trial_36 ?_
  refine lv_iload_n hx hb dX0_trial_39 rfl (lv_at hl 2 rfl) ?_
  refine gw_aald hx hb hK P.1 2 (q0 := 19) (ty := .object "GateRoad$Way") (f := fun j => if (Kd (8 + j)).isSome = true then some (ad (wo (8 + j))) else none) (cA := G 2) (n := 6) rfl rfl rfl (vin_of (by decide)) dX0_trial_40 ?_
  simp only [eK, hi, Option.isSome_some, if_true]
  show W p l e ({ frames := 5, cells := 2, slots := 19, locals := 110 }) s m args below meth c H locs 2 19 _ (F0 m 41 ls (.ref (ad (wo 11)) :: []))
  exact W.aret hx hb hr (Or.inl ⟨_, rfl⟩) (Or.inr ⟨_, rfl⟩) (fun t ht hW => ⟨⟨(ad, Kd, beF F 11 w, beA Ar 11 w), _, rfl, hq, ⟨by show gw_P _ _ _ _ t.heap; rw [ht]; exact P.1, P.2.1, P.2.2.2, hag⟩, rfl⟩, P.2.2.1.F ht⟩) P.2.2.1.2.2 dX0_trial_41 hlk
set_option maxHeartbeats 4000000 in
theorem tX0_trial_3 (l : Launch) (D : va_G) (G ad : Nat → Nat) (Kd : tK) (U : tU) (T : tT) (zz : Int32) (F : tF) (Ar : tA) (w : Nat) (hk : Kd w = some 3) (hf : ∀ j, j < 16 → fits .byte (.int (Ar (wa w) j)) = true) (sz : Nat) (Q : tK → tF → tA → Prop) (hq1 : Kd 11 = none → Q (va_up Kd 11 (some 3)) (beF (nwF F 11 (-1)) 11 w) (beA (nwA Ar 11) 11 w)) (hq2 : Kd 11 = some 3 → Q Kd (beF F 11 w) (beA Ar 11 w)) (h8 : ∀ k, Kd 11 = some k → k = 3) : Met l yX0_trial (ws_ yX0_trial cX0_trial 3 (some (.object "GateRoad$Way"))) ({ frames := 5, cells := 2, slots := 19, locals := 110 }) (va_Pc [.ref (ad 0), .ref (ad (wo w))] (cPb D G ad Kd U T zz F Ar sz)) (trQ D G ad Kd U T zz sz 11 Q) 2 19 (cReg G ad Kd U zz sz) := by
  refine c_entry (by decide) (Nat.le_of_ble_eq_true rfl) ?_
  intro p e s m args below meth c ls X hr hsz P hl
  subst hsz
  have X : cCx p s m args meth c cX0_trial 3 RX0 D G := X
  obtain ⟨hx, hb, hml, hown, hts, hK, hlk, hN⟩ := id X
  have hl : lv_has ls 3 [(0, .ref (ad 0)), (1, .ref (ad (wo w)))] := hl
  have hw : Kd w ≠ none := by rw [hk]; exact fun z => by cases z
  have hA : ∀ q, s.heap.size ≤ q → cReg G ad Kd U zz s.heap.size q := fun q h => Or.inr h
  refine lv_aload_n hx hb dX0_trial_0 rfl (lv_at hl 1 rfl) ?_
  refine c_v_kind X P hw ⟨Nat.le_of_ble_eq_true rfl, Nat.le_of_ble_eq_true rfl⟩ hl.1 (Nat.le_of_ble_eq_true rfl) ⟨Nat.zero_le _, Nat.zero_le _⟩ dX0_trial_1 ?_
  have ek : kindV (kdOf Kd w) = 3 := by unfold kdOf; rw [hk]; rfl
  rw [ek]
  refine lv_istore_n (lv' := [(2, .int 3), (0, .ref (ad 0)), (1, .ref (ad (wo w)))]) hx hb dX0_trial_4 rfl hl (by decide) rfl (fun ls hl => ?_)
  refine lv_aload_n hx hb dX0_trial_5 rfl (lv_at hl 1 rfl) ?_
  refine cg_trials X P dX0_trial_6 ?_
  refine lv_iload_n hx hb dX0_trial_9 rfl (lv_at hl 0 rfl) ?_
  refine gw_aald hx hb hK P.1 2 (q0 := 19) (ty := .object "GateRoad$Way") (f := fun j => if (Kd (8 + j)).isSome = true then some (ad (wo (8 + j))) else none) (cA := G 2) (n := 6) rfl rfl rfl (vin_of (by decide)) dX0_trial_10 ?_
  have eK : (3 : Int32).toNatClampNeg = 3 := by decide
  cases hi : Kd 11 with
  | some k0 =>
    have h9 := h8 k0 hi
    subst h9
    simp only [eK, hi, Option.isSome_some, if_true]
    refine W.widen (k := 2) (n := 19) (Nat.zero_le _) (Nat.zero_le _) ?_
    show W p l e ({ frames := 5, cells := 2, slots := 19, locals := 110 }) s m args below meth c s.heap [] 2 19 _ (F0 m 11 ls (.ref (ad (wo 11)) :: []))
    refine lv_ifnonnull (tgt := 25) hx hb dX0_trial_11 (by decide) ?_
    exact trial_tail_3 X hr P ⟨fun _ _ => rfl, fun _ => rfl⟩ hi hw hf (hq2 hi) (lv_sub hl [1, 2, 0] rfl)
  | none =>
    simp only [eK, hi, Option.isSome_none, if_false, Bool.false_eq_true]
    show W p l e ({ frames := 5, cells := 2, slots := 19, locals := 110 }) s m args below meth c s.heap [] 0 0 _ (F0 m 11 ls (.null :: []))
    refine lv_ifnonnullN hx hb dX0_trial_11 ?_
    refine lv_aload_n hx hb dX0_trial_14 rfl (lv_at hl 1 rfl) ?_
    refine cg_trials X P dX0_trial_15 ?_
    refine lv_iload_n hx hb dX0_trial_18 rfl (lv_at hl 0 rfl) ?_
    refine lv_iload_n hx hb dX0_trial_19 rfl (lv_at hl 0 rfl) ?_
    refine lv_iconst (v := -1) hx hb dX0_trial_20 (by decide) ?_
    refine va_callr (va_runS (As := [.int 3, .int (-1)]) (rest := [.int 3, .ref (ad 19)]) ⟨hx, hb, hml, hown, hts⟩ (tX0_made_3 l D G s.heap.size (-1)) (va_cwS 2 hts (lw_S q800 q801 q64 q802) rfl rfl rfl (by decide +kernel) ⟨Nat.le_of_ble_eq_true rfl, Nat.le_of_ble_eq_true rfl⟩) ⟨md_blind, fun V hV hW => ⟨rfl, by rw [hV], va_K.moved hW.alike (hK.sub [1] rfl)⟩⟩ rfl rfl hl.1 rfl (lv_room (Nat.le_of_ble_eq_true rfl)) dX0_trial_21 ⟨Nat.le_of_ble_eq_true rfl, Nat.le_of_ble_eq_true rfl⟩) P.2.2.1 (fun q _ h => hA q h) (fun q h => hA q h) (fun b a t H1 locs1 ht hvm _ hB hz hkp hS => ?_)
    obtain ⟨hP1, ha, hb2, hab⟩ := hB
    rw [ht] at hP1
    have hold : ∀ q : Nat, q < s.heap.size → H1[q]? = s.heap[q]? := fun q h => hkp q h (Nat.not_le.mpr h)
    have no1 : cE G ad F Ar Kd U (wo 11) = none := by
      rw [cE_ob (cArr_wo (by decide))]
      show Option.map _ (Kd 11) = none
      rw [hi]
      rfl
    have no2 : cE G ad F Ar Kd U (wa 11) = none := by
      have e0 : cArr Kd (wa 11) = none := by show Option.map _ (Kd 11) = none; rw [hi]; rfl
      rw [cE_ob e0]
      rfl
    have G1 := P.1.grow (k := wo 11) no1 hold (hP1 0 _ rfl)
    have D1 := P.2.1.grow (k := wo 11) (x := .inr (5, [.int (-1), .ref b, .int 0])) (hA a ha) (fun j hj => by
      cases hc : cE G ad F Ar Kd U j with
      | none => exact absurd hc hj
      | some y => have := (P.1 j y hc).lt; intro z; have z : ad j = a := z; have this : ad j < s.heap.size := this; omega)
    have G2 := G1.grow (H1 := H1) (k := wa 11) (a := b) (x := .inl (G 1, 16, .inl (fun _ => 0))) (by unfold gw_set; rw [if_neg (by decide)]; exact no2) (fun _ _ => rfl) (hP1 1 _ rfl)
    have D2 := D1.grow (k := wa 11) (a := b) (x := .inl (G 1, 16, .inl (fun _ => 0))) (hA b hb2) (fun j hj => by
      by_cases e9 : j = wo 11
      · subst e9; simp [va_up]; exact hab
      · simp only [gw_set, if_neg e9] at hj
        simp only [va_up, if_neg e9]
        cases hc : cE G ad F Ar Kd U j with
        | none => exact absurd hc hj
        | some y => have := (P.1 j y hc).lt; intro z; have z : ad j = b := z; have this : ad j < s.heap.size := this; omega)
    have e19 : nwAd ad 11 a b 19 = ad 19 := nwAd_n (by decide) (by decide)
    have e0 : nwAd ad 11 a b 0 = ad 0 := nwAd_n (by decide) (by decide)
    have hne : w ≠ 11 := by intro z; rw [z, hi] at hk; cases hk
    have ew : nwAd ad 11 a b (wo w) = ad (wo w) := nwAd_n (by show 100 + 2 * w ≠ 100 + 2 * 11; omega) (by show 100 + 2 * w ≠ 101 + 2 * 11; omega)
    rw [← e19]
    refine gw_aast hx hb hK G2 D2 hS 2 (q0 := 19) (C := "GateRoad$Way") (f := fun j => if (Kd (8 + j)).isSome = true then some (ad (wo (8 + j))) else none) (cA := G 2) (n := 6) rfl rfl (way_any hK hN (kd := 3) (by decide) (hP1 0 _ rfl)) (vin_of (by decide)) dX0_trial_24 (fun H2 locs2 hP2 hD2 hS2 _ => ?_)
    rw [eK] at hP2 hD2
    have eg := cE_grown (G := G) (ad := ad) (F := F) (Ar := Ar) (Kd := Kd) (U := U) (i := 11) (kd := 3) (a := a) (b := b) (num := -1) rfl (by decide) hi P.2.2.2.1.2.1
    have hP2 : gw_P D vcl (nwAd ad 11 a b) (cE G (nwAd ad 11 a b) (nwF F 11 (-1)) (nwA Ar 11) (va_up Kd 11 (some 3)) U) H2 := by rw [← eg]; exact hP2
    have hD2 : gw_D (cReg G ad Kd U zz s.heap.size) (nwAd ad 11 a b) (cE G (nwAd ad 11 a b) (nwF F 11 (-1)) (nwA Ar 11) (va_up Kd 11 (some 3)) U) := by rw [← eg]; exact hD2
    have e32 : nwF F 11 (-1) 32 = F 32 := by simp [nwF, upd]
    have e28 : nwF F 11 (-1) 28 = F 28 := by simp [nwF, upd]
    have P2 : cP D (cReg G ad Kd U zz s.heap.size) G (nwAd ad 11 a b) s.heap (va_up Kd 11 (some 3)) U T zz (nwF F 11 (-1)) (nwA Ar 11) H2 locs2 := ⟨hP2, hD2, hS2, cWf_new P.2.2.2.1 e32 rfl (by decide), cTx_ad (fun k => nwAd_n (by show 200 + k ≠ 100 + 2 * 11; omega) (by show 200 + k ≠ 101 + 2 * 11; omega)) e28 P.2.2.2.2.1, by rw [e32]; exact P.2.2.2.2.2⟩
    refine W.widen (k := 2) (n := 19) (Nat.le_of_ble_eq_true rfl) (Nat.le_of_ble_eq_true rfl) ?_
    refine trial_tail_3 X hr P2 ⟨fun k hk0 => ?_, fun j => nwAd_n (by show 200 + j ≠ 100 + 2 * 11; omega) (by show 200 + j ≠ 101 + 2 * 11; omega)⟩ (by simp [va_up]) (by simp [va_up, hne]; exact hw) (fun j hj => ?_) (hq1 hi) ?_
    · refine nwAd_n (fun z => ?_) (fun z => ?_)
      · subst z; exact absurd (cE_dom (F := fun _ => zz) (Ar := fun _ _ => 0) (F2 := F) (Ar2 := Ar) P.2.2.2.2.2 hk0) (fun h => h no1)
      · subst z; exact absurd (cE_dom (F := fun _ => zz) (Ar := fun _ _ => 0) (F2 := F) (Ar2 := Ar) P.2.2.2.2.2 hk0) (fun h => h no2)
    · have : nwA Ar 11 (wa w) = Ar (wa w) := by
        simp only [nwA, aput]
        rw [if_neg (by show ¬ 101 + 2 * w = 101 + 2 * 11; omega)]
      rw [this]
      exact hf j hj
    · rw [e0, ew]
      exact lv_sub hl [1, 2, 0] rfl

set_option maxHeartbeats 4000000 in
theorem trial_tail_4 {p : Program} {l : Launch} {e : Env} {s : State} {m : MethodId} {args : Array Value} {below : List Frame} {meth : Method} {c : Code} {D : va_G} {G ad0 ad : Nat → Nat} {Kd0 Kd : tK} {U : tU} {T : tT} {zz : Int32} {F : tF} {Ar : tA} {H : Heap} {locs : List Loc} {ls : Array Slot} {w : Nat} {Q : tK → tF → tA → Prop} (X : cCx p s m args meth c cX0_trial 3 RX0 D G) (hr : meth.sig.returnType = some (.object "GateRoad$Way")) (P : cP D (cReg G ad0 Kd0 U zz s.heap.size) G ad s.heap Kd U T zz F Ar H locs) (hag : (∀ k, cE G ad0 (fun _ => zz) (fun _ _ => 0) Kd0 U k ≠ none → ad k = ad0 k) ∧ ∀ j, ad (200 + j) = ad0 (200 + j)) (hi : Kd 12 = some 4) (hw : Kd w ≠ none) (hf : ∀ j, j < 16 → fits .byte (.int (Ar (wa w) j)) = true) (hq : Q Kd (beF F 12 w) (beA Ar 12 w)) (hl : lv_has ls 3 [(0, .ref (ad 0)), (1, .ref (ad (wo w))), (2, .int 4)]) : W p l e ({ frames := 5, cells := 2, slots := 19, locals := 110 }) s m args below meth c H locs 2 19 (MQ below (trQ D G ad0 Kd0 U T zz s.heap.size 12 Q) args s 2 19 (cReg G ad0 Kd0 U zz s.heap.size)) (F0 m 25 ls []) := by
  obtain ⟨hx, hb, hml, hown, hts, hK, hlk, hN⟩ := id X
  have hA : ∀ q, s.heap.size ≤ q → cReg G ad0 Kd0 U zz s.heap.size q := fun q h => Or.inr h
  refine lv_aload_n hx hb dX0_trial_25 rfl (lv_at hl 0 rfl) ?_
  refine cg_trials X P dX0_trial_26 ?_
  refine lv_iload_n hx hb dX0_trial_29 rfl (lv_at hl 2 rfl) ?_
  refine gw_aald hx hb hK P.1 2 (q0 := 19) (ty := .object "GateRoad$Way") (f := fun j => if (Kd (8 + j)).isSome = true then some (ad (wo (8 + j))) else none) (cA := G 2) (n := 6) rfl rfl rfl (vin_of (by decide)) dX0_trial_30 ?_
  have eK : (4 : Int32).toNatClampNeg = 4 := by decide
  simp only [eK, hi, Option.isSome_some, if_true]
  show W p l e ({ frames := 5, cells := 2, slots := 19, locals := 110 }) s m args below meth c H locs 2 19 _ (F0 m 31 ls (.ref (ad (wo 12)) :: []))
  refine lv_aload_n hx hb dX0_trial_31 rfl (lv_at hl 1 rfl) ?_
  refine va_callv (va_runU (C := "GateRoad$Last") (As := [.ref (ad (wo w))]) (rest := []) ⟨hx, hb, hml, hown, hts⟩ (tX8_be l D G ad Kd U T zz F Ar 12 w (by rw [hi]; exact fun z => by cases z) hw hf H.size (fun F1 A1 => F1 = beF F 12 w ∧ A1 = beA Ar 12 w) ⟨rfl, rfl⟩) (va_cwU (owner := "GateRoad$Way") 1 hts (lw_Up (x := yX8_be) q1134 q1137 q1139 q1135 q89 q1143) rfl rfl rfl rfl (by decide +kernel) ⟨Nat.le_of_ble_eq_true rfl, Nat.le_of_ble_eq_true rfl⟩) ⟨c_blind, va_recv hK (gw_one P.1 (cE_way (G := G) (ad := ad) (F := F) (Ar := Ar) (U := U) (by decide) hi)) (ci := 6) (q0 := 0) rfl rfl, fun V hV hW => ⟨rfl, by rw [hV], by rw [hV]; exact P.1, ⟨P.2.1.1, fun _ _ => trivial⟩, P.2.2.2, va_K.moved hW.alike hK, cNw.warm hW hN⟩⟩ rfl rfl hl.1 rfl (lv_room (Nat.le_of_ble_eq_true rfl)) dX0_trial_32 ⟨Nat.le_of_ble_eq_true rfl, Nat.le_of_ble_eq_true rfl⟩) P.2.2.1 (fun q _ h => P.regA hA q h) (fun q h => P.regA hA q h) (fun u t H1 locs1 ht hvm hp hB _ _ hS => ?_)
  have P := c_afterA P ht hB hS
  obtain ⟨u1, u2⟩ := u
  obtain ⟨e1, e2⟩ := hp
  simp only at e1 e2 P
  subst e1
  subst e2
  generalize H1 = H at P hS ⊢
  generalize locs1 = locs at P hS ⊢
  refine lv_aload_n hx hb dX0_trial_35 rfl (lv_at hl 0 rfl) ?_
  refine cg_trials X P dX0_trial_36 ?_
  refine lv_iload_n hx hb dX0_trial_39 rfl (lv_at hl 2 rfl) ?_
  refine gw_aald hx hb hK P.1 2 (q0 := 19) (ty := .object "GateRoad$Way") (f := fun j => if (Kd (8 + j)).isSome = true then some (ad (wo (8 + j))) else none) (cA := G 2) (n := 6) rfl rfl rfl (vin_of (by decide)) dX0_trial_40 ?_
  simp only [eK, hi, Option.isSome_some, if_true]
  show W p l e ({ frames := 5, cells := 2, slots := 19, locals := 110 }) s m args below meth c H locs 2 19 _ (F0 m 41 ls (.ref (ad (wo 12)) :: []))
  exact W.aret hx hb hr (Or.inl ⟨_, rfl⟩) (Or.inr ⟨_, rfl⟩) (fun t ht hW => ⟨⟨(ad, Kd, beF F 12 w, beA Ar 12 w), _, rfl, hq, ⟨by show gw_P _ _ _ _ t.heap; rw [ht]; exact P.1, P.2.1, P.2.2.2, hag⟩, rfl⟩, P.2.2.1.F ht⟩) P.2.2.1.2.2 dX0_trial_41 hlk
set_option maxHeartbeats 4000000 in
theorem tX0_trial_4 (l : Launch) (D : va_G) (G ad : Nat → Nat) (Kd : tK) (U : tU) (T : tT) (zz : Int32) (F : tF) (Ar : tA) (w : Nat) (hk : Kd w = some 4) (hf : ∀ j, j < 16 → fits .byte (.int (Ar (wa w) j)) = true) (sz : Nat) (Q : tK → tF → tA → Prop) (hq1 : Kd 12 = none → Q (va_up Kd 12 (some 4)) (beF (nwF F 12 (-1)) 12 w) (beA (nwA Ar 12) 12 w)) (hq2 : Kd 12 = some 4 → Q Kd (beF F 12 w) (beA Ar 12 w)) (h8 : ∀ k, Kd 12 = some k → k = 4) : Met l yX0_trial (ws_ yX0_trial cX0_trial 3 (some (.object "GateRoad$Way"))) ({ frames := 5, cells := 2, slots := 19, locals := 110 }) (va_Pc [.ref (ad 0), .ref (ad (wo w))] (cPb D G ad Kd U T zz F Ar sz)) (trQ D G ad Kd U T zz sz 12 Q) 2 19 (cReg G ad Kd U zz sz) := by
  refine c_entry (by decide) (Nat.le_of_ble_eq_true rfl) ?_
  intro p e s m args below meth c ls X hr hsz P hl
  subst hsz
  have X : cCx p s m args meth c cX0_trial 3 RX0 D G := X
  obtain ⟨hx, hb, hml, hown, hts, hK, hlk, hN⟩ := id X
  have hl : lv_has ls 3 [(0, .ref (ad 0)), (1, .ref (ad (wo w)))] := hl
  have hw : Kd w ≠ none := by rw [hk]; exact fun z => by cases z
  have hA : ∀ q, s.heap.size ≤ q → cReg G ad Kd U zz s.heap.size q := fun q h => Or.inr h
  refine lv_aload_n hx hb dX0_trial_0 rfl (lv_at hl 1 rfl) ?_
  refine c_v_kind X P hw ⟨Nat.le_of_ble_eq_true rfl, Nat.le_of_ble_eq_true rfl⟩ hl.1 (Nat.le_of_ble_eq_true rfl) ⟨Nat.zero_le _, Nat.zero_le _⟩ dX0_trial_1 ?_
  have ek : kindV (kdOf Kd w) = 4 := by unfold kdOf; rw [hk]; rfl
  rw [ek]
  refine lv_istore_n (lv' := [(2, .int 4), (0, .ref (ad 0)), (1, .ref (ad (wo w)))]) hx hb dX0_trial_4 rfl hl (by decide) rfl (fun ls hl => ?_)
  refine lv_aload_n hx hb dX0_trial_5 rfl (lv_at hl 1 rfl) ?_
  refine cg_trials X P dX0_trial_6 ?_
  refine lv_iload_n hx hb dX0_trial_9 rfl (lv_at hl 0 rfl) ?_
  refine gw_aald hx hb hK P.1 2 (q0 := 19) (ty := .object "GateRoad$Way") (f := fun j => if (Kd (8 + j)).isSome = true then some (ad (wo (8 + j))) else none) (cA := G 2) (n := 6) rfl rfl rfl (vin_of (by decide)) dX0_trial_10 ?_
  have eK : (4 : Int32).toNatClampNeg = 4 := by decide
  cases hi : Kd 12 with
  | some k0 =>
    have h9 := h8 k0 hi
    subst h9
    simp only [eK, hi, Option.isSome_some, if_true]
    refine W.widen (k := 2) (n := 19) (Nat.zero_le _) (Nat.zero_le _) ?_
    show W p l e ({ frames := 5, cells := 2, slots := 19, locals := 110 }) s m args below meth c s.heap [] 2 19 _ (F0 m 11 ls (.ref (ad (wo 12)) :: []))
    refine lv_ifnonnull (tgt := 25) hx hb dX0_trial_11 (by decide) ?_
    exact trial_tail_4 X hr P ⟨fun _ _ => rfl, fun _ => rfl⟩ hi hw hf (hq2 hi) (lv_sub hl [1, 2, 0] rfl)
  | none =>
    simp only [eK, hi, Option.isSome_none, if_false, Bool.false_eq_true]
    show W p l e ({ frames := 5, cells := 2, slots := 19, locals := 110 }) s m args below meth c s.heap [] 0 0 _ (F0 m 11 ls (.null :: []))
    refine lv_ifnonnullN hx hb dX0_trial_11 ?_
    refine lv_aload_n hx hb dX0_trial_14 rfl (lv_at hl 1 rfl) ?_
    refine cg_trials X P dX0_trial_15 ?_
    refine lv_iload_n hx hb dX0_trial_18 rfl (lv_at hl 0 rfl) ?_
    refine lv_iload_n hx hb dX0_trial_19 rfl (lv_at hl 0 rfl) ?_
    refine lv_iconst (v := -1) hx hb dX0_trial_20 (by decide) ?_
    refine va_callr (va_runS (As := [.int 4, .int (-1)]) (rest := [.int 4, .ref (ad 19)]) ⟨hx, hb, hml, hown, hts⟩ (tX0_made_4 l D G s.heap.size (-1)) (va_cwS 2 hts (lw_S q800 q801 q64 q802) rfl rfl rfl (by decide +kernel) ⟨Nat.le_of_ble_eq_true rfl, Nat.le_of_ble_eq_true rfl⟩) ⟨md_blind, fun V hV hW => ⟨rfl, by rw [hV], va_K.moved hW.alike (hK.sub [1] rfl)⟩⟩ rfl rfl hl.1 rfl (lv_room (Nat.le_of_ble_eq_true rfl)) dX0_trial_21 ⟨Nat.le_of_ble_eq_true rfl, Nat.le_of_ble_eq_true rfl⟩) P.2.2.1 (fun q _ h => hA q h) (fun q h => hA q h) (fun b a t H1 locs1 ht hvm _ hB hz hkp hS => ?_)
    obtain ⟨hP1, ha, hb2, hab⟩ := hB
    rw [ht] at hP1
    have hold : ∀ q : Nat, q < s.heap.size → H1[q]? = s.heap[q]? := fun q h => hkp q h (Nat.not_le.mpr h)
    have no1 : cE G ad F Ar Kd U (wo 12) = none := by
      rw [cE_ob (cArr_wo (by decide))]
      show Option.map _ (Kd 12) = none
      rw [hi]
      rfl
    have no2 : cE G ad F Ar Kd U (wa 12) = none := by
      have e0 : cArr Kd (wa 12) = none := by show Option.map _ (Kd 12) = none; rw [hi]; rfl
      rw [cE_ob e0]
      rfl
    have G1 := P.1.grow (k := wo 12) no1 hold (hP1 0 _ rfl)
    have D1 := P.2.1.grow (k := wo 12) (x := .inr (6, [.int (-1), .ref b, .int 0])) (hA a ha) (fun j hj => by
      cases hc : cE G ad F Ar Kd U j with
      | none => exact absurd hc hj
      | some y => have := (P.1 j y hc).lt; intro z; have z : ad j = a := z; have this : ad j < s.heap.size := this; omega)
    have G2 := G1.grow (H1 := H1) (k := wa 12) (a := b) (x := .inl (G 1, 16, .inl (fun _ => 0))) (by unfold gw_set; rw [if_neg (by decide)]; exact no2) (fun _ _ => rfl) (hP1 1 _ rfl)
    have D2 := D1.grow (k := wa 12) (a := b) (x := .inl (G 1, 16, .inl (fun _ => 0))) (hA b hb2) (fun j hj => by
      by_cases e9 : j = wo 12
      · subst e9; simp [va_up]; exact hab
      · simp only [gw_set, if_neg e9] at hj
        simp only [va_up, if_neg e9]
        cases hc : cE G ad F Ar Kd U j with
        | none => exact absurd hc hj
        | some y => have := (P.1 j y hc).lt; intro z; have z : ad j = b := z; have this : ad j < s.heap.size := this; omega)
    have e19 : nwAd ad 12 a b 19 = ad 19 := nwAd_n (by decide) (by decide)
    have e0 : nwAd ad 12 a b 0 = ad 0 := nwAd_n (by decide) (by decide)
    have hne : w ≠ 12 := by intro z; rw [z, hi] at hk; cases hk
    have ew : nwAd ad 12 a b (wo w) = ad (wo w) := nwAd_n (by show 100 + 2 * w ≠ 100 + 2 * 12; omega) (by show 100 + 2 * w ≠ 101 + 2 * 12; omega)
    rw [← e19]
    refine gw_aast hx hb hK G2 D2 hS 2 (q0 := 19) (C := "GateRoad$Way") (f := fun j => if (Kd (8 + j)).isSome = true then some (ad (wo (8 + j))) else none) (cA := G 2) (n := 6) rfl rfl (way_any hK hN (kd := 4) (by decide) (hP1 0 _ rfl)) (vin_of (by decide)) dX0_trial_24 (fun H2 locs2 hP2 hD2 hS2 _ => ?_)
    rw [eK] at hP2 hD2
    have eg := cE_grown (G := G) (ad := ad) (F := F) (Ar := Ar) (Kd := Kd) (U := U) (i := 12) (kd := 4) (a := a) (b := b) (num := -1) rfl (by decide) hi P.2.2.2.1.2.1
    have hP2 : gw_P D vcl (nwAd ad 12 a b) (cE G (nwAd ad 12 a b) (nwF F 12 (-1)) (nwA Ar 12) (va_up Kd 12 (some 4)) U) H2 := by rw [← eg]; exact hP2
    have hD2 : gw_D (cReg G ad Kd U zz s.heap.size) (nwAd ad 12 a b) (cE G (nwAd ad 12 a b) (nwF F 12 (-1)) (nwA Ar 12) (va_up Kd 12 (some 4)) U) := by rw [← eg]; exact hD2
    have e32 : nwF F 12 (-1) 32 = F 32 := by simp [nwF, upd]
    have e28 : nwF F 12 (-1) 28 = F 28 := by simp [nwF, upd]
    have P2 : cP D (cReg G ad Kd U zz s.heap.size) G (nwAd ad 12 a b) s.heap (va_up Kd 12 (some 4)) U T zz (nwF F 12 (-1)) (nwA Ar 12) H2 locs2 := ⟨hP2, hD2, hS2, cWf_new P.2.2.2.1 e32 rfl (by decide), cTx_ad (fun k => nwAd_n (by show 200 + k ≠ 100 + 2 * 12; omega) (by show 200 + k ≠ 101 + 2 * 12; omega)) e28 P.2.2.2.2.1, by rw [e32]; exact P.2.2.2.2.2⟩
    refine W.widen (k := 2) (n := 19) (Nat.le_of_ble_eq_true rfl) (Nat.le_of_ble_eq_true rfl) ?_
    refine trial_tail_4 X hr P2 ⟨fun k hk0 => ?_, fun j => nwAd_n (by show 200 + j ≠ 100 + 2 * 12; omega) (by show 200 + j ≠ 101 + 2 * 12; omega)⟩ (by simp [va_up]) (by simp [va_up, hne]; exact hw) (fun j hj => ?_) (hq1 hi) ?_
    · refine nwAd_n (fun z => ?_) (fun z => ?_)
      · subst z; exact absurd (cE_dom (F := fun _ => zz) (Ar := fun _ _ => 0) (F2 := F) (Ar2 := Ar) P.2.2.2.2.2 hk0) (fun h => h no1)
      · subst z; exact absurd (cE_dom (F := fun _ => zz) (Ar := fun _ _ => 0) (F2 := F) (Ar2 := Ar) P.2.2.2.2.2 hk0) (fun h => h no2)
    · have : nwA Ar 12 (wa w) = Ar (wa w) := by
        simp only [nwA, aput]
        rw [if_neg (by show ¬ 101 + 2 * w = 101 + 2 * 12; omega)]
      rw [this]
      exact hf j hj
    · rw [e0, ew]
      exact lv_sub hl [1, 2, 0] rfl

set_option maxHeartbeats 4000000 in
theorem trial_tail_5 {p : Program} {l : Launch} {e : Env} {s : State} {m : MethodId} {args : Array Value} {below : List Frame} {meth : Method} {c : Code} {D : va_G} {G ad0 ad : Nat → Nat} {Kd0 Kd : tK} {U : tU} {T : tT} {zz : Int32} {F : tF} {Ar : tA} {H : Heap} {locs : List Loc} {ls : Array Slot} {w : Nat} {Q : tK → tF → tA → Prop} (X : cCx p s m args meth c cX0_trial 3 RX0 D G) (hr : meth.sig.returnType = some (.object "GateRoad$Way")) (P : cP D (cReg G ad0 Kd0 U zz s.heap.size) G ad s.heap Kd U T zz F Ar H locs) (hag : (∀ k, cE G ad0 (fun _ => zz) (fun _ _ => 0) Kd0 U k ≠ none → ad k = ad0 k) ∧ ∀ j, ad (200 + j) = ad0 (200 + j)) (hi : Kd 13 = some 5) (hw : Kd w ≠ none) (hf : ∀ j, j < 16 → fits .byte (.int (Ar (wa w) j)) = true) (hq : Q Kd (beF F 13 w) (beA Ar 13 w)) (hl : lv_has ls 3 [(0, .ref (ad 0)), (1, .ref (ad (wo w))), (2, .int 5)]) : W p l e ({ frames := 5, cells := 2, slots := 19, locals := 110 }) s m args below meth c H locs 2 19 (MQ below (trQ D G ad0 Kd0 U T zz s.heap.size 13 Q) args s 2 19 (cReg G ad0 Kd0 U zz s.heap.size)) (F0 m 25 ls []) := by
  obtain ⟨hx, hb, hml, hown, hts, hK, hlk, hN⟩ := id X
  have hA : ∀ q, s.heap.size ≤ q → cReg G ad0 Kd0 U zz s.heap.size q := fun q h => Or.inr h
  refine lv_aload_n hx hb dX0_trial_25 rfl (lv_at hl 0 rfl) ?_
  refine cg_trials X P dX0_trial_26 ?_
  refine lv_iload_n hx hb dX0_trial_29 rfl (lv_at hl 2 rfl) ?_
  refine gw_aald hx hb hK P.1 2 (q0 := 19) (ty := .object "GateRoad$Way") (f := fun j => if (Kd (8 + j)).isSome = true then some (ad (wo (8 + j))) else none) (cA := G 2) (n := 6) rfl rfl rfl (vin_of (by decide)) dX0_trial_30 ?_
  have eK : (5 : Int32).toNatClampNeg = 5 := by decide
  simp only [eK, hi, Option.isSome_some, if_true]
  show W p l e ({ frames := 5, cells := 2, slots := 19, locals := 110 }) s m args below meth c H locs 2 19 _ (F0 m 31 ls (.ref (ad (wo 13)) :: []))
  refine lv_aload_n hx hb dX0_trial_31 rfl (lv_at hl 1 rfl) ?_
  refine va_callv (va_runU (C := "GateRoad$Sorted") (As := [.ref (ad (wo w))]) (rest := []) ⟨hx, hb, hml, hown, hts⟩ (tX8_be l D G ad Kd U T zz F Ar 13 w (by rw [hi]; exact fun z => by cases z) hw hf H.size (fun F1 A1 => F1 = beF F 13 w ∧ A1 = beA Ar 13 w) ⟨rfl, rfl⟩) (va_cwU (owner := "GateRoad$Way") 1 hts (lw_Up (x := yX8_be) q1134 q1137 q1141 q1135 q89 q1143) rfl rfl rfl rfl (by decide +kernel) ⟨Nat.le_of_ble_eq_true rfl, Nat.le_of_ble_eq_true rfl⟩) ⟨c_blind, va_recv hK (gw_one P.1 (cE_way (G := G) (ad := ad) (F := F) (Ar := Ar) (U := U) (by decide) hi)) (ci := 7) (q0 := 0) rfl rfl, fun V hV hW => ⟨rfl, by rw [hV], by rw [hV]; exact P.1, ⟨P.2.1.1, fun _ _ => trivial⟩, P.2.2.2, va_K.moved hW.alike hK, cNw.warm hW hN⟩⟩ rfl rfl hl.1 rfl (lv_room (Nat.le_of_ble_eq_true rfl)) dX0_trial_32 ⟨Nat.le_of_ble_eq_true rfl, Nat.le_of_ble_eq_true rfl⟩) P.2.2.1 (fun q _ h => P.regA hA q h) (fun q h => P.regA hA q h) (fun u t H1 locs1 ht hvm hp hB _ _ hS => ?_)
  have P := c_afterA P ht hB hS
  obtain ⟨u1, u2⟩ := u
  obtain ⟨e1, e2⟩ := hp
  simp only at e1 e2 P
  subst e1
  subst e2
  generalize H1 = H at P hS ⊢
  generalize locs1 = locs at P hS ⊢
  refine lv_aload_n hx hb dX0_trial_35 rfl (lv_at hl 0 rfl) ?_
  refine cg_trials X P dX0_trial_36 ?_
  refine lv_iload_n hx hb dX0_trial_39 rfl (lv_at hl 2 rfl) ?_
  refine gw_aald hx hb hK P.1 2 (q0 := 19) (ty := .object "GateRoad$Way") (f := fun j => if (Kd (8 + j)).isSome = true then some (ad (wo (8 + j))) else none) (cA := G 2) (n := 6) rfl rfl rfl (vin_of (by decide)) dX0_trial_40 ?_
  simp only [eK, hi, Option.isSome_some, if_true]
  show W p l e ({ frames := 5, cells := 2, slots := 19, locals := 110 }) s m args below meth c H locs 2 19 _ (F0 m 41 ls (.ref (ad (wo 13)) :: []))
  exact W.aret hx hb hr (Or.inl ⟨_, rfl⟩) (Or.inr ⟨_, rfl⟩) (fun t ht hW => ⟨⟨(ad, Kd, beF F 13 w, beA Ar 13 w), _, rfl, hq, ⟨by show gw_P _ _ _ _ t.heap; rw [ht]; exact P.1, P.2.1, P.2.2.2, hag⟩, rfl⟩, P.2.2.1.F ht⟩) P.2.2.1.2.2 dX0_trial_41 hlk
set_option maxHeartbeats 4000000 in
theorem tX0_trial_5 (l : Launch) (D : va_G) (G ad : Nat → Nat) (Kd : tK) (U : tU) (T : tT) (zz : Int32) (F : tF) (Ar : tA) (w : Nat) (hk : Kd w = some 5) (hf : ∀ j, j < 16 → fits .byte (.int (Ar (wa w) j)) = true) (sz : Nat) (Q : tK → tF → tA → Prop) (hq1 : Kd 13 = none → Q (va_up Kd 13 (some 5)) (beF (nwF F 13 (-1)) 13 w) (beA (nwA Ar 13) 13 w)) (hq2 : Kd 13 = some 5 → Q Kd (beF F 13 w) (beA Ar 13 w)) (h8 : ∀ k, Kd 13 = some k → k = 5) : Met l yX0_trial (ws_ yX0_trial cX0_trial 3 (some (.object "GateRoad$Way"))) ({ frames := 5, cells := 2, slots := 19, locals := 110 }) (va_Pc [.ref (ad 0), .ref (ad (wo w))] (cPb D G ad Kd U T zz F Ar sz)) (trQ D G ad Kd U T zz sz 13 Q) 2 19 (cReg G ad Kd U zz sz) := by
  refine c_entry (by decide) (Nat.le_of_ble_eq_true rfl) ?_
  intro p e s m args below meth c ls X hr hsz P hl
  subst hsz
  have X : cCx p s m args meth c cX0_trial 3 RX0 D G := X
  obtain ⟨hx, hb, hml, hown, hts, hK, hlk, hN⟩ := id X
  have hl : lv_has ls 3 [(0, .ref (ad 0)), (1, .ref (ad (wo w)))] := hl
  have hw : Kd w ≠ none := by rw [hk]; exact fun z => by cases z
  have hA : ∀ q, s.heap.size ≤ q → cReg G ad Kd U zz s.heap.size q := fun q h => Or.inr h
  refine lv_aload_n hx hb dX0_trial_0 rfl (lv_at hl 1 rfl) ?_
  refine c_v_kind X P hw ⟨Nat.le_of_ble_eq_true rfl, Nat.le_of_ble_eq_true rfl⟩ hl.1 (Nat.le_of_ble_eq_true rfl) ⟨Nat.zero_le _, Nat.zero_le _⟩ dX0_trial_1 ?_
  have ek : kindV (kdOf Kd w) = 5 := by unfold kdOf; rw [hk]; rfl
  rw [ek]
  refine lv_istore_n (lv' := [(2, .int 5), (0, .ref (ad 0)), (1, .ref (ad (wo w)))]) hx hb dX0_trial_4 rfl hl (by decide) rfl (fun ls hl => ?_)
  refine lv_aload_n hx hb dX0_trial_5 rfl (lv_at hl 1 rfl) ?_
  refine cg_trials X P dX0_trial_6 ?_
  refine lv_iload_n hx hb dX0_trial_9 rfl (lv_at hl 0 rfl) ?_
  refine gw_aald hx hb hK P.1 2 (q0 := 19) (ty := .object "GateRoad$Way") (f := fun j => if (Kd (8 + j)).isSome = true then some (ad (wo (8 + j))) else none) (cA := G 2) (n := 6) rfl rfl rfl (vin_of (by decide)) dX0_trial_10 ?_
  have eK : (5 : Int32).toNatClampNeg = 5 := by decide
  cases hi : Kd 13 with
  | some k0 =>
    have h9 := h8 k0 hi
    subst h9
    simp only [eK, hi, Option.isSome_some, if_true]
    refine W.widen (k := 2) (n := 19) (Nat.zero_le _) (Nat.zero_le _) ?_
    show W p l e ({ frames := 5, cells := 2, slots := 19, locals := 110 }) s m args below meth c s.heap [] 2 19 _ (F0 m 11 ls (.ref (ad (wo 13)) :: []))
    refine lv_ifnonnull (tgt := 25) hx hb dX0_trial_11 (by decide) ?_
    exact trial_tail_5 X hr P ⟨fun _ _ => rfl, fun _ => rfl⟩ hi hw hf (hq2 hi) (lv_sub hl [1, 2, 0] rfl)
  | none =>
    simp only [eK, hi, Option.isSome_none, if_false, Bool.false_eq_true]
    show W p l e ({ frames := 5, cells := 2, slots := 19, locals := 110 }) s m args below meth c s.heap [] 0 0 _ (F0 m 11 ls (.null :: []))
    refine lv_ifnonnullN hx hb dX0_trial_11 ?_
    refine lv_aload_n hx hb dX0_trial_14 rfl (lv_at hl 1 rfl) ?_
    refine cg_trials X P dX0_trial_15 ?_
    refine lv_iload_n hx hb dX0_trial_18 rfl (lv_at hl 0 rfl) ?_
    refine lv_iload_n hx hb dX0_trial_19 rfl (lv_at hl 0 rfl) ?_
    refine lv_iconst (v := -1) hx hb dX0_trial_20 (by decide) ?_
    refine va_callr (va_runS (As := [.int 5, .int (-1)]) (rest := [.int 5, .ref (ad 19)]) ⟨hx, hb, hml, hown, hts⟩ (tX0_made_5 l D G s.heap.size (-1)) (va_cwS 2 hts (lw_S q800 q801 q64 q802) rfl rfl rfl (by decide +kernel) ⟨Nat.le_of_ble_eq_true rfl, Nat.le_of_ble_eq_true rfl⟩) ⟨md_blind, fun V hV hW => ⟨rfl, by rw [hV], va_K.moved hW.alike (hK.sub [1] rfl)⟩⟩ rfl rfl hl.1 rfl (lv_room (Nat.le_of_ble_eq_true rfl)) dX0_trial_21 ⟨Nat.le_of_ble_eq_true rfl, Nat.le_of_ble_eq_true rfl⟩) P.2.2.1 (fun q _ h => hA q h) (fun q h => hA q h) (fun b a t H1 locs1 ht hvm _ hB hz hkp hS => ?_)
    obtain ⟨hP1, ha, hb2, hab⟩ := hB
    rw [ht] at hP1
    have hold : ∀ q : Nat, q < s.heap.size → H1[q]? = s.heap[q]? := fun q h => hkp q h (Nat.not_le.mpr h)
    have no1 : cE G ad F Ar Kd U (wo 13) = none := by
      rw [cE_ob (cArr_wo (by decide))]
      show Option.map _ (Kd 13) = none
      rw [hi]
      rfl
    have no2 : cE G ad F Ar Kd U (wa 13) = none := by
      have e0 : cArr Kd (wa 13) = none := by show Option.map _ (Kd 13) = none; rw [hi]; rfl
      rw [cE_ob e0]
      rfl
    have G1 := P.1.grow (k := wo 13) no1 hold (hP1 0 _ rfl)
    have D1 := P.2.1.grow (k := wo 13) (x := .inr (7, [.int (-1), .ref b, .int 0])) (hA a ha) (fun j hj => by
      cases hc : cE G ad F Ar Kd U j with
      | none => exact absurd hc hj
      | some y => have := (P.1 j y hc).lt; intro z; have z : ad j = a := z; have this : ad j < s.heap.size := this; omega)
    have G2 := G1.grow (H1 := H1) (k := wa 13) (a := b) (x := .inl (G 1, 16, .inl (fun _ => 0))) (by unfold gw_set; rw [if_neg (by decide)]; exact no2) (fun _ _ => rfl) (hP1 1 _ rfl)
    have D2 := D1.grow (k := wa 13) (a := b) (x := .inl (G 1, 16, .inl (fun _ => 0))) (hA b hb2) (fun j hj => by
      by_cases e9 : j = wo 13
      · subst e9; simp [va_up]; exact hab
      · simp only [gw_set, if_neg e9] at hj
        simp only [va_up, if_neg e9]
        cases hc : cE G ad F Ar Kd U j with
        | none => exact absurd hc hj
        | some y => have := (P.1 j y hc).lt; intro z; have z : ad j = b := z; have this : ad j < s.heap.size := this; omega)
    have e19 : nwAd ad 13 a b 19 = ad 19 := nwAd_n (by decide) (by decide)
    have e0 : nwAd ad 13 a b 0 = ad 0 := nwAd_n (by decide) (by decide)
    have hne : w ≠ 13 := by intro z; rw [z, hi] at hk; cases hk
    have ew : nwAd ad 13 a b (wo w) = ad (wo w) := nwAd_n (by show 100 + 2 * w ≠ 100 + 2 * 13; omega) (by show 100 + 2 * w ≠ 101 + 2 * 13; omega)
    rw [← e19]
    refine gw_aast hx hb hK G2 D2 hS 2 (q0 := 19) (C := "GateRoad$Way") (f := fun j => if (Kd (8 + j)).isSome = true then some (ad (wo (8 + j))) else none) (cA := G 2) (n := 6) rfl rfl (way_any hK hN (kd := 5) (by decide) (hP1 0 _ rfl)) (vin_of (by decide)) dX0_trial_24 (fun H2 locs2 hP2 hD2 hS2 _ => ?_)
    rw [eK] at hP2 hD2
    have eg := cE_grown (G := G) (ad := ad) (F := F) (Ar := Ar) (Kd := Kd) (U := U) (i := 13) (kd := 5) (a := a) (b := b) (num := -1) rfl (by decide) hi P.2.2.2.1.2.1
    have hP2 : gw_P D vcl (nwAd ad 13 a b) (cE G (nwAd ad 13 a b) (nwF F 13 (-1)) (nwA Ar 13) (va_up Kd 13 (some 5)) U) H2 := by rw [← eg]; exact hP2
    have hD2 : gw_D (cReg G ad Kd U zz s.heap.size) (nwAd ad 13 a b) (cE G (nwAd ad 13 a b) (nwF F 13 (-1)) (nwA Ar 13) (va_up Kd 13 (some 5)) U) := by rw [← eg]; exact hD2
    have e32 : nwF F 13 (-1) 32 = F 32 := by simp [nwF, upd]
    have e28 : nwF F 13 (-1) 28 = F 28 := by simp [nwF, upd]
    have P2 : cP D (cReg G ad Kd U zz s.heap.size) G (nwAd ad 13 a b) s.heap (va_up Kd 13 (some 5)) U T zz (nwF F 13 (-1)) (nwA Ar 13) H2 locs2 := ⟨hP2, hD2, hS2, cWf_new P.2.2.2.1 e32 rfl (by decide), cTx_ad (fun k => nwAd_n (by show 200 + k ≠ 100 + 2 * 13; omega) (by show 200 + k ≠ 101 + 2 * 13; omega)) e28 P.2.2.2.2.1, by rw [e32]; exact P.2.2.2.2.2⟩
    refine W.widen (k := 2) (n := 19) (Nat.le_of_ble_eq_true rfl) (Nat.le_of_ble_eq_true rfl) ?_
    refine trial_tail_5 X hr P2 ⟨fun k hk0 => ?_, fun j => nwAd_n (by show 200 + j ≠ 100 + 2 * 13; omega) (by show 200 + j ≠ 101 + 2 * 13; omega)⟩ (by simp [va_up]) (by simp [va_up, hne]; exact hw) (fun j hj => ?_) (hq1 hi) ?_
    · refine nwAd_n (fun z => ?_) (fun z => ?_)
      · subst z; exact absurd (cE_dom (F := fun _ => zz) (Ar := fun _ _ => 0) (F2 := F) (Ar2 := Ar) P.2.2.2.2.2 hk0) (fun h => h no1)
      · subst z; exact absurd (cE_dom (F := fun _ => zz) (Ar := fun _ _ => 0) (F2 := F) (Ar2 := Ar) P.2.2.2.2.2 hk0) (fun h => h no2)
    · have : nwA Ar 13 (wa w) = Ar (wa w) := by
        simp only [nwA, aput]
        rw [if_neg (by show ¬ 101 + 2 * w = 101 + 2 * 13; omega)]
      rw [this]
      exact hf j hj
    · rw [e0, ew]
      exact lv_sub hl [1, 2, 0] rfl

