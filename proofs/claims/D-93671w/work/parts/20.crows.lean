/-! ===== the class's object: its world as numbered cells =====
cells: 0 the object; k+1 its field k (arrays, list, rows); 33 the list's array; 40+j sheets, 44+j their cells; 100+2i way i, 101+2i its choices (i < 8 listed, 8+k the trial of kind k); 200+j nodes -/
set_option maxRecDepth 100000
abbrev tK : Type := Nat → Option Nat
abbrev tT : Type := Nat → Nat → List Int32
abbrev tU : Type := (Nat → Option va_E) × (Nat → Option Nat)
abbrev wo (i : Nat) : Nat := 100 + 2 * i
abbrev wa (i : Nat) : Nat := 101 + 2 * i
def vcl : List vw_C := [(RX7, TX7, 49), (RX0, TX0, 32), (RX8, TX8, 3), (RX9, TX9, 3), (RX10, TX10, 3), (RX11, TX11, 3), (RX12, TX12, 3), (RX13, TX13, 3), (RX1, TX1, 3), (RJ2, TJ2, 3), (RX5, TX5, 2), (RX4, TX4, 2), (RX6, TX6, 3), (RX2, TX2, 8), (RX15, TX15, 1), (RX14, TX14, 7), (RX3, TX3, 7), (RJ18, TJ18, 1), (RJ8, TJ8, 4), (RJ3, TJ3, 4)]
abbrev cTys (G : Nat → Nat) : List (ClassId × FieldType) := [(G 0, .int), (G 1, .byte), (G 2, .object "GateRoad$Way"), (G 3, .array (.object "GateRoad$Node")), (G 4, .object "GateRoad$Sheet"), (G 5, .object "java/lang/Object"), (G 6, .object "GateRoad$Node"), (G 7, .long)]
def aput (Ar : tA) (k : Nat) (f : Nat → Int32) : tA := fun j => if j = k then f else Ar j
def cIsI (k : Nat) : Bool := k == 6 || k == 7 || k == 10 || k == 15 || k == 16 || k == 17 || k == 24 || k == 25 || k == 26 || k == 28 || k == 30
def cFld (ad : Nat → Nat) (F : tF) (k : Nat) : Value := if cIsI k = true then .int (F k) else .ref (ad (k + 1))
def cFs (ad : Nat → Nat) (F : tF) : List Value := (List.range 32).map (cFld ad F)
def cArK (k : Nat) : Option (Nat × Nat) := match k with
  | 1 => some (0, 48)
  | 2 => some (0, 48)
  | 3 => some (0, 4)
  | 4 => some (0, 4)
  | 5 => some (0, 8)
  | 6 => some (0, 16)
  | 10 => some (0, 6)
  | 12 => some (0, 16)
  | 13 => some (0, 16)
  | 14 => some (0, 48)
  | 15 => some (0, 16)
  | 20 => some (0, 4)
  | 21 => some (0, 48)
  | 22 => some (0, 48)
  | 23 => some (0, 4)
  | 24 => some (1, 128)
  | 30 => some (1, 160)
  | 44 => some (0, 40)
  | 45 => some (0, 40)
  | 46 => some (0, 40)
  | 47 => some (0, 40)
  | _ => none
def cArr (Kd : tK) (k : Nat) : Option (Nat × Nat) := if k < 100 then cArK k else if k < 128 then (if k % 2 = 1 then (Kd ((k - 100) / 2)).map (fun _ => (1, 16)) else none) else none
def cOb (G ad : Nat → Nat) (F : tF) (Kd : tK) (U : tU) (k : Nat) : Option va_E :=
  if k = 0 then some (.inr (1, cFs ad F))
  else if k = 9 then some (.inr (9, [.int (F 33), .ref (if F 32 = 0 then G 10 else ad 33), .int (F 32)]))
  else if k = 19 then some (.inl (G 2, 6, .inr (.inr (.inr (.inr (fun j => if (Kd (8 + j)).isSome = true then some (ad (wo (8 + j))) else none))))))
  else if k = 28 then some (.inl (G 3, 6, .inr (.inr (.inr (.inr (fun j => (U.2 j).map (fun t => ad (200 + t))))))))
  else if k = 32 then some (.inl (G 4, 4, .inr (.inr (.inr (.inr (fun j => if j < 4 then some (ad (40 + j)) else none))))))
  else if k = 33 then (if F 32 = 0 then none else some (.inl (G 5, 10, .inr (.inr (.inr (.inr (fun j => if j < (F 32).toNatClampNeg then some (ad (wo j)) else none)))))))
  else if 40 ≤ k ∧ k < 44 then some (.inr (8, [.int (F (2 * k - 40)), .int (F (2 * k - 39)), .ref (ad (k + 4))]))
  else if 100 ≤ k ∧ k < 128 then (if k % 2 = 0 then (Kd ((k - 100) / 2)).map (fun kd => .inr (2 + kd, [.int (F k), .ref (ad (k + 1)), .int (F (k + 1))])) else none)
  else if 200 ≤ k then U.1 (k - 200) else none
def cE (G ad : Nat → Nat) (F : tF) (Ar : tA) (Kd : tK) (U : tU) (k : Nat) : Option va_E := match cArr Kd k with
  | some (g, n) => some (.inl (G g, n, .inl (Ar k)))
  | none => cOb G ad F Kd U k
theorem cE_of {G ad : Nat → Nat} {F : tF} {Ar : tA} {Kd : tK} {U : tU} {k g n : Nat} (h : cArr Kd k = some (g, n)) : cE G ad F Ar Kd U k = some (.inl (G g, n, .inl (Ar k))) := by
  unfold cE
  rw [h]
theorem cE_ob {G ad : Nat → Nat} {F : tF} {Ar : tA} {Kd : tK} {U : tU} {k : Nat} (h : cArr Kd k = none) : cE G ad F Ar Kd U k = cOb G ad F Kd U k := by
  unfold cE
  rw [h]
theorem cE_arr {G ad : Nat → Nat} {F : tF} {Ar : tA} {Kd : tK} {U : tU} {k g n : Nat} {f : Nat → Int32} (h : cArr Kd k = some (g, n)) : gw_set (cE G ad F Ar Kd U) k (.inl (G g, n, .inl f)) = cE G ad F (aput Ar k f) Kd U := by
  funext j
  by_cases e : j = k
  · subst e
    rw [cE_of h]
    simp [gw_set, aput]
  · simp [gw_set, e, cE, aput]
theorem cFs_upd {ad : Nat → Nat} {F : tF} {k : Nat} {v : Int32} (h : 32 ≤ k) : cFs ad (upd F k v) = cFs ad F := by
  unfold cFs
  apply List.map_congr_left
  intro i hi
  have hi := List.mem_range.mp hi
  have : ¬ i = k := by omega
  simp [cFld, upd, this]
theorem cOb_upd {G ad : Nat → Nat} {F : tF} {Kd : tK} {U : tU} {k q : Nat} {v : Int32} (h0 : q = 0 → 32 ≤ k) (h9 : q = 9 ∨ q = 33 → k ≠ 32 ∧ k ≠ 33) (hs : 40 ≤ q → q < 44 → k ≠ 2 * q - 40 ∧ k ≠ 2 * q - 39) (hw : 100 ≤ q → q < 128 → k ≠ q ∧ k ≠ q + 1) : cOb G ad (upd F k v) Kd U q = cOb G ad F Kd U q := by
  unfold cOb
  by_cases e0 : q = 0
  · simp [e0, cFs_upd (h0 e0)]
  by_cases e9 : q = 9
  · have := h9 (Or.inl e9)
    simp [e9, upd, this.1.symm, this.2.symm]
  by_cases e19 : q = 19
  · simp [e19]
  by_cases e28 : q = 28
  · simp [e28]
  by_cases e32 : q = 32
  · simp [e32]
  by_cases e33 : q = 33
  · have := h9 (Or.inr e33)
    simp [e33, upd, this.1.symm]
  by_cases e40 : 40 ≤ q ∧ q < 44
  · have := hs e40.1 e40.2
    simp [e0, e9, e19, e28, e32, e33, e40, upd, this.1.symm, this.2.symm]
  by_cases e100 : 100 ≤ q ∧ q < 128
  · have := hw e100.1 e100.2
    simp [e0, e9, e19, e28, e32, e33, e40, e100, upd, this.1.symm, this.2.symm]
  simp [e0, e9, e19, e28, e32, e33, e40, e100]
theorem cE_upd {G ad : Nat → Nat} {F : tF} {Ar : tA} {Kd : tK} {U : tU} {k q : Nat} {v : Int32} (h0 : q = 0 → 32 ≤ k) (h9 : q = 9 ∨ q = 33 → k ≠ 32 ∧ k ≠ 33) (hs : 40 ≤ q → q < 44 → k ≠ 2 * q - 40 ∧ k ≠ 2 * q - 39) (hw : 100 ≤ q → q < 128 → k ≠ q ∧ k ≠ q + 1) : cE G ad (upd F k v) Ar Kd U q = cE G ad F Ar Kd U q := by
  unfold cE
  rw [cOb_upd h0 h9 hs hw]
/-- an int field of the object -/
theorem cE_put0 {G ad : Nat → Nat} {F : tF} {Ar : tA} {Kd : tK} {U : tU} {k : Nat} {v : Int32} (h1 : cIsI k = true) (h2 : k < 32) : gw_set (cE G ad F Ar Kd U) 0 (.inr (1, (cFs ad F).set k (.int v))) = cE G ad (upd F k v) Ar Kd U := by
  funext j
  by_cases e : j = 0
  · subst e
    simp only [gw_set, if_true]
    show _ = some (Sum.inr (1, cFs ad (upd F k v)))
    congr 3
    apply List.ext_getElem?
    intro i
    simp only [cFs, List.getElem?_set, List.getElem?_map, List.length_map, List.length_range]
    by_cases hi : k = i
    · subst hi
      simp [h2, cFld, h1, upd]
    · simp only [hi, if_false]
      by_cases hk : i < 32
      · simp [List.getElem?_range, hk, cFld, upd, show ¬ i = k from fun z => hi z.symm]
      · simp [List.getElem?_range, hk]
  · simp only [gw_set, if_neg e]
    exact (cE_upd (fun h => absurd h e) (fun _ => by omega) (fun _ _ => by omega) (fun _ _ => by omega)).symm
/-- trees of a text, told by the signs in the order in which they are done -/
def cOp (sg op : Int32) : Prop := (sg = 43 ∧ op = 16) ∨ (sg = 45 ∧ op = 17) ∨ (sg = 42 ∧ op = 18) ∨ (sg = 60 ∧ op = 14) ∨ (sg = 61 ∧ op = 15) ∨ (sg = 38 ∧ op = 12) ∨ (sg = 124 ∧ op = 11)
def cTr (N : Nat → Option va_E) (ad : Nat → Nat) : Nat → Nat → List Int32 → Prop
  | 0, _, _ => False
  | n + 1, k, c => (∃ v nm : Int32, N k = some (.inr (10, [.int v, .int nm])) ∧ ((nm = -1 ∧ 0 ≤ v ∧ v ≤ 9999 ∧ c = [100000 + v]) ∨ (0 ≤ nm ∧ nm ≤ 5 ∧ c = [nm]))) ∨
    (∃ (b : Int32) (k1 : Nat) (c1 : List Int32), N k = some (.inr (11, [.int b, .ref (ad (200 + k1))])) ∧ cTr N ad n k1 c1 ∧ ((b = 1 ∧ c = c1 ++ [13]) ∨ (b = 0 ∧ c = c1 ++ [19]))) ∨
    (∃ (sg op : Int32) (k1 k2 : Nat) (c1 c2 : List Int32), N k = some (.inr (12, [.int sg, .ref (ad (200 + k1)), .ref (ad (200 + k2))])) ∧ cTr N ad n k1 c1 ∧ cTr N ad n k2 c2 ∧ cOp sg op ∧ c = c1 ++ c2 ++ [op])
def cTx (G ad : Nat → Nat) (U : tU) (T : tT) (F : tF) : Prop := ∀ j : Nat, (j : Int) < (F 28).toInt → ∃ t k0 k1 : Nat, U.2 j = some t ∧ U.1 t = some (.inl (G 6, 2, .inr (.inr (.inr (.inr (fun i => if i = 0 then some (ad (200 + k0)) else some (ad (200 + k1)))))))) ∧ cTr U.1 ad 200 k0 (T j 0) ∧ cTr U.1 ad 200 k1 (T j 1)
def cWf (F : tF) (Kd : tK) : Prop := ¬ F 32 < 0 ∧ (F 32).toNatClampNeg ≤ 8 ∧ (∀ i : Nat, i < (F 32).toNatClampNeg → Kd i ≠ none) ∧ ∀ i k : Nat, Kd i = some k → k < 6 ∧ i < 14
/-- words that a method carries by itself -/
def cXw : List Cond := [.castable "GateRoad$Tolled" "GateRoad$Way", .castable "GateRoad$Numbered" "GateRoad$Way", .castable "GateRoad$Drawn" "GateRoad$Way", .castable "GateRoad$Last" "GateRoad$Way", .castable "GateRoad$Sorted" "GateRoad$Way", .castable "GateRoad$Drawn" "GateRoad$Numbered", .castable "GateRoad$Sorted" "GateRoad$Tolled", .castable "GateRoad$Way" "java/lang/Object", .castable "GateRoad$Tolled" "java/lang/Object", .castable "GateRoad$Numbered" "java/lang/Object", .castable "GateRoad$Drawn" "java/lang/Object", .castable "GateRoad$Last" "java/lang/Object", .castable "GateRoad$Sorted" "java/lang/Object"]
def yNode : MethodName := ⟨"GateRoad$Node", "worth", "([I)I"⟩
def nFw (s : State) : Prop := va_Fw "GateRoad$Leaf" yNode yX5_worth s ∧ va_Fw "GateRoad$One" yNode yX4_worth s ∧ va_Fw "GateRoad$Two" yNode yX6_worth s
theorem nFw.moved {u U : State} (hvm : u.vm.Alike U.vm) (h : nFw u) : nFw U := ⟨va_Fw.moved (by decide) hvm h.1, va_Fw.moved (by decide) hvm h.2.1, va_Fw.moved (by decide) hvm h.2.2⟩
def cNw (U : State) : Prop := (∀ C T : String, Cond.castable C T ∈ cXw → va_Nw (.castable C T) U) ∧ nFw U
theorem cNw.warm {s U : State} (hW : s.WarmedH U.vm) (h : cNw s) : cNw U := ⟨fun C T hm => va_Nw.warmC hW (h.1 C T hm), h.2.moved hW.alike⟩
theorem cNw.same {s U : State} (hv : s.vm = U.vm) (h : cNw s) : cNw U := ⟨fun C T hm => va_Nw.same rfl hv (h.1 C T hm), h.2.moved (by rw [hv]; exact Vm.Alike.refl _)⟩
def cCx (p : Program) (s : State) (m : MethodId) (args : Array Value) (meth : Method) (c : Code) (cc : ByteArray) (nL : Nat) (own : String) (D : va_G) (G : Nat → Nat) : Prop :=
  p.tables.exec = Jvm.exec ∧ c.code = cc ∧ c.maxLocals = nL ∧ s.vm.findClass own = some m.cls ∧ (∀ w ∈ lw_all, w.before args s = true) ∧ va_K D vcl (cTys G) s ∧ meth.locks = false ∧ cNw s
def cP (D : va_G) (A : Nat → Prop) (G ad : Nat → Nat) (H0 : Heap) (Kd : tK) (U : tU) (T : tT) (zz : Int32) (F : tF) (Ar : tA) (H : Heap) (locs : List Loc) : Prop :=
  gw_P D vcl ad (cE G ad F Ar Kd U) H ∧ gw_D A ad (cE G ad F Ar Kd U) ∧ va_S A H0 H locs ∧ cWf F Kd ∧ cTx G ad U T F ∧ F 32 = zz
theorem cE_dom {G ad : Nat → Nat} {F F2 : tF} {Ar Ar2 : tA} {Kd : tK} {U : tU} {k : Nat} (e32 : F2 32 = F 32) (h : cE G ad F Ar Kd U k ≠ none) : cE G ad F2 Ar2 Kd U k ≠ none := by
  unfold cE at h ⊢
  cases hc : cArr Kd k with
  | some q => exact fun z => by cases z
  | none =>
    rw [hc] at h
    simp only at h ⊢
    unfold cOb at h ⊢
    by_cases e0 : k = 0
    · simp [e0]
    by_cases e9 : k = 9
    · simp [e9]
    by_cases e19 : k = 19
    · simp [e19]
    by_cases e28 : k = 28
    · simp [e28]
    by_cases e32' : k = 32
    · simp [e32']
    by_cases e33 : k = 33
    · simp only [e33] at h ⊢
      simp [e32] at h ⊢
      exact h
    by_cases e40 : 40 ≤ k ∧ k < 44
    · simp [e0, e9, e19, e28, e32', e33, e40]
    by_cases e100 : 100 ≤ k ∧ k < 128
    · simp only [e0, e9, e19, e28, e32', e33, e40, e100, if_true, if_false, and_self] at h ⊢
      by_cases e2 : k % 2 = 0
      · simp only [e2, if_true] at h ⊢
        cases hK : Kd ((k - 100) / 2) with
        | none => rw [hK] at h; exact absurd rfl h
        | some q => exact fun z => by cases z
      · simp only [e2, if_false] at h
        exact absurd rfl h
    simp only [e0, e9, e19, e28, e32', e33, e40, e100, if_false] at h ⊢
    exact h
def cReg (G ad : Nat → Nat) (Kd : tK) (U : tU) (zz : Int32) (sz : Nat) : Nat → Prop := fun q => (∃ k : Nat, cE G ad (fun _ => zz) (fun _ _ => 0) Kd U k ≠ none ∧ q = ad k) ∨ sz ≤ q
section CR
variable {p : Program} {l : Launch} {e : Env} {R : Room} {s : State} {m : MethodId} {args : Array Value} {below : List Frame} {meth : Method} {c : Code} {H : Heap} {locs : List Loc} {cells slots : Nat} {Q : State → Prop}
variable {cc : ByteArray} {nL pc : Nat} {ls : Array Slot} {rest : List Value} {D : va_G} {A : Nat → Prop} {G ad : Nat → Nat} {H0 : Heap} {Kd : tK} {U : tU} {T : tT} {zz : Int32} {F : tF} {Ar : tA}
theorem c_get (X : cCx p s m args meth c cc nL RX0 D G) (P : cP D A G ad H0 Kd U T zz F Ar H locs) (k : Nat) (hk : k < 32) {index : Nat} (hl : Cond.fieldLink RX0 index RX0 (TX0 k).2.1 (TX0 k).2.2.1 ∈ lw_all) (hs : (TX0 k).1 = RX0) {v : Value} (hv : (cFs ad F)[k]? = some v) (hdg : decode cc pc = .ok (.getfield index, 3))
    (kk : W p l e R s m args below meth c H locs cells slots Q (F0 m (pc + 3) ls (v :: rest))) : W p l e R s m args below meth c H locs cells slots Q (F0 m pc ls (.ref (ad 0) :: rest)) := by
  obtain ⟨hx, hb, hml, hown, hts, hK, hlk, hN⟩ := X
  exact gw_get hx hb hts in_X0 hown hK P.1 (q0 := 0) (fs := cFs ad F) (ci := 1) rfl rfl k hk (hts _ hl) (fun _ h => by rw [hs] at h; exact h) hv hdg kk
theorem c_put (X : cCx p s m args meth c cc nL RX0 D G) (P : cP D A G ad H0 Kd U T zz F Ar H locs) (k : Nat) (hk : k < 32) {index : Nat} (hl : Cond.fieldLink RX0 index RX0 (TX0 k).2.1 (TX0 k).2.2.1 ∈ lw_all) (hs : (TX0 k).1 = RX0) (h1 : cIsI k = true) (h2 : k ≠ 28) (hfin : (TX0 k).2.2.2 = false) {v : Int32} (hd : parseFieldDescriptor (TX0 k).2.2.1 = some .int) (hdg : decode cc pc = .ok (.putfield index, 3))
    (kk : ∀ (F1 : tF) (H1 : Heap) (locs1 : List Loc), F1 = upd F k v → cP D A G ad H0 Kd U T zz F1 Ar H1 locs1 → H1.size = H.size → W p l e R s m args below meth c H1 locs1 cells slots Q (F0 m (pc + 3) ls rest)) : W p l e R s m args below meth c H locs cells slots Q (F0 m pc ls (.int v :: .ref (ad 0) :: rest)) := by
  obtain ⟨hx, hb, hml, hown, hts, hK, hlk, hN⟩ := X
  refine gw_put hx hb hts in_X0 tyX0 tyX0_ok nmX0 hown hK P.1 P.2.1 P.2.2.1 (q0 := 0) (fs := cFs ad F) (ci := 1) rfl rfl k hk (hts _ hl) (fun _ h => by rw [hs] at h; exact h) hfin hd rfl rfl (by simp [cFs]; exact hk) hdg ?_
  intro H1 locs1 hP hD hS hz
  rw [cE_put0 h1 hk] at hP hD
  have e32 : upd F k v 32 = F 32 := by simp [upd]; omega
  have e28 : upd F k v 28 = F 28 := by simp [upd]; omega
  exact kk _ H1 locs1 rfl ⟨hP, hD, hS, by unfold cWf; rw [e32]; exact P.2.2.2.1, by unfold cTx; rw [e28]; exact P.2.2.2.2.1, by rw [e32]; exact P.2.2.2.2.2⟩ hz
theorem c_iald (X : cCx p s m args meth c cc nL RX0 D G) (P : cP D A G ad H0 Kd U T zz F Ar H locs) {k n : Nat} (h1 : cArr Kd k = some (0, n)) {i : Int32} (hin : vp_in i n) (hdg : decode cc pc = .ok (.iaload, 1))
    (kk : W p l e R s m args below meth c H locs cells slots Q (F0 m (pc + 1) ls (.int (Ar k i.toNatClampNeg) :: rest))) : W p l e R s m args below meth c H locs cells slots Q (F0 m pc ls (.int i :: .ref (ad k) :: rest)) := by
  obtain ⟨hx, hb, hml, hown, hts, hK, hlk, hN⟩ := X
  exact gw_iald hx hb hK P.1 0 (cE_of h1) rfl hin hdg kk
theorem c_bald (X : cCx p s m args meth c cc nL RX0 D G) (P : cP D A G ad H0 Kd U T zz F Ar H locs) {k n : Nat} (h1 : cArr Kd k = some (1, n)) {i : Int32} (hin : vp_in i n) (hdg : decode cc pc = .ok (.baload, 1))
    (kk : W p l e R s m args below meth c H locs cells slots Q (F0 m (pc + 1) ls (.int (Ar k i.toNatClampNeg) :: rest))) : W p l e R s m args below meth c H locs cells slots Q (F0 m pc ls (.int i :: .ref (ad k) :: rest)) := by
  obtain ⟨hx, hb, hml, hown, hts, hK, hlk, hN⟩ := X
  exact gw_bald hx hb hK P.1 1 (cE_of h1) rfl hin hdg kk
theorem c_iast (X : cCx p s m args meth c cc nL RX0 D G) (P : cP D A G ad H0 Kd U T zz F Ar H locs) {k n : Nat} (h1 : cArr Kd k = some (0, n)) {i x : Int32} (hin : vp_in i n) (hdg : decode cc pc = .ok (.iastore, 1))
    (kk : ∀ (A1 : tA) (H1 : Heap) (locs1 : List Loc), A1 = aset Ar k i.toNatClampNeg x → cP D A G ad H0 Kd U T zz F A1 H1 locs1 → H1.size = H.size → W p l e R s m args below meth c H1 locs1 cells slots Q (F0 m (pc + 1) ls rest)) : W p l e R s m args below meth c H locs cells slots Q (F0 m pc ls (.int x :: .int i :: .ref (ad k) :: rest)) := by
  obtain ⟨hx, hb, hml, hown, hts, hK, hlk, hN⟩ := X
  refine gw_iast hx hb hK P.1 P.2.1 P.2.2.1 0 (cE_of h1) rfl hin hdg ?_
  intro H1 locs1 hP hD hS hz
  rw [cE_arr h1] at hP hD
  exact kk _ H1 locs1 rfl ⟨hP, hD, hS, P.2.2.2⟩ hz
theorem c_bast (X : cCx p s m args meth c cc nL RX0 D G) (P : cP D A G ad H0 Kd U T zz F Ar H locs) {k n : Nat} (h1 : cArr Kd k = some (1, n)) {i x : Int32} (hin : vp_in i n) (hdg : decode cc pc = .ok (.bastore, 1))
    (kk : ∀ (A1 : tA) (H1 : Heap) (locs1 : List Loc), A1 = aset Ar k i.toNatClampNeg (vp_nar .byte x) → cP D A G ad H0 Kd U T zz F A1 H1 locs1 → H1.size = H.size → W p l e R s m args below meth c H1 locs1 cells slots Q (F0 m (pc + 1) ls rest)) : W p l e R s m args below meth c H locs cells slots Q (F0 m pc ls (.int x :: .int i :: .ref (ad k) :: rest)) := by
  obtain ⟨hx, hb, hml, hown, hts, hK, hlk, hN⟩ := X
  refine gw_bast hx hb hK P.1 P.2.1 P.2.2.1 1 (cE_of h1) rfl hin hdg ?_
  intro H1 locs1 hP hD hS hz
  rw [cE_arr h1] at hP hD
  exact kk _ H1 locs1 rfl ⟨hP, hD, hS, P.2.2.2⟩ hz
end CR
