/-! ===== parts; the reader made; by gen/rd7.py ===== -/
set_option maxRecDepth 100000
def sPart (tp : Nat → Int32) (n k : Nat) (ρ : tR) : pRes :=
  if ρ.2.2.2.1 = some (kyB k) then match sNext tp n ρ with
    | .inl p => .inl p
    | .inr ρ1 => match (lev tp n 6).2.2 ρ1 with
      | .inl p => .inl p
      | .inr q => if q.2.2.2.2.2.2 = 59 then (match sNext tp n q.2 with
          | .inl p => .inl p
          | .inr ρ3 => .inr (q.1, ρ3)) else .inl q.2.2.1
  else .inl ρ.2.1
def sParts (tp : Nat → Int32) (n : Nat) (ρ : tR) : Sum Nat (List Int32 × List Int32) := match sNext tp n ρ with
  | .inl p => .inl p
  | .inr ρ1 => match sPart tp n 0 ρ1 with
    | .inl p => .inl p
    | .inr q0 => match sPart tp n 1 q0.2 with
      | .inl p => .inl p
      | .inr q1 => if q1.2.1 < n ∨ q1.2.2.2.2.1 ≠ none ∨ q1.2.2.2.2.2.1 ≠ -1 ∨ q1.2.2.2.2.2.2 ≠ -1 then .inl q1.2.2.1 else .inr (q0.1, q1.1)
section XNQ
variable {p : Program} {l : Launch} {e : Env} {R : Room} {s : State} {m : MethodId} {args : Array Value} {below : List Frame} {meth : Method} {c : Code} {H : Heap} {locs : List Loc} {cells slots : Nat} {Q : State → Prop} {cc : ByteArray} {pc : Nat} {ls : Array Slot} {rest : List Value} {D : va_G} {cl : List vw_C} {tys : List (ClassId × FieldType)}
theorem x_newq (hexec : p.tables.exec = Jvm.exec) (hb : c.code = cc) {own C : String} {index : Nat} (hown : s.vm.findClass own = some m.cls) (hclink : (Cond.classLink own index C).before args s = true) (hover : va_AO C s) (hK : va_K D cl tys s)
    {n : Int32} {N' : Nat} (hn : ¬ n < 0) (hN : n.toNatClampNeg = N') (hbytes : N' * 4 ≤ 536870912) (hcells : cells + 1 ≤ R.cells) (hslots : slots + N' ≤ R.slots) (hdg : decode cc pc = .ok (.anewarray index, 3))
    (kk : ∀ (cA : ClassId) (H1 : Heap), va_K D cl (tys ++ [(cA, .object C)]) s → va_P D cl [(H.size, .inl (cA, N', .inr (.inr (.inr (.inr (fun _ => none))))))] H1 → H1.size = H.size + 1 → (∀ q : Nat, q < H.size → H1[q]? = H[q]?) →
      W p l e R s m args below meth c H1 locs (cells + 1) (slots + N') Q (F0 m (pc + 3) ls (.ref H.size :: rest))) : W p l e R s m args below meth c H locs cells slots Q (F0 m pc ls (.int n :: rest)) := by
  subst hN
  refine W.anew hexec hb hown hclink (va_AO.use hover) rfl hdg rfl hn hbytes hcells hslots fun cA kA comp f1 f2 f3 f4 => ?_
  generalize hH1 : H.push ({ cls := cA, slots := Array.replicate n.toNatClampNeg .null, vm := .none } : Cell) = H1
  have z1 : H1.size = H.size + 1 := by rw [← hH1, Array.size_push]
  have e1 : H1[H.size]? = some (arrV cA n.toNatClampNeg (fun _ => .null)) := by rw [← hH1, Array.getElem?_push_size, ← arrV_new]
  have o1 : ∀ q : Nat, q < H.size → H1[q]? = H[q]? := fun q hq => by rw [← hH1, Array.getElem?_push, if_neg (Nat.ne_of_lt hq)]
  have hAr : ArrOfT s cA (.object C) := fun N z => ⟨(fun k h => by cases h), kA, f2, comp, f3⟩
  refine kk cA H1 ⟨hK.1, fun k x hx => ?_⟩ (fun k x hx => ?_) z1 o1
  · by_cases hl : k < tys.length
    · rw [List.getElem?_append_left hl] at hx
      exact hK.2 k x hx
    · rw [List.getElem?_append_right (by omega)] at hx
      have hz : k - tys.length < 1 := (List.getElem?_eq_some_iff.mp hx).1
      rw [show k - tys.length = 0 by omega] at hx
      cases hx
      exact ⟨hAr, kA, comp, f2, f3, f4, f1⟩
  · have hz : k < 1 := (List.getElem?_eq_some_iff.mp hx).1
    rw [show k = 0 by omega] at hx
    cases hx
    exact e1
theorem x_aast (hexec : p.tables.exec = Jvm.exec) (hb : c.code = cc) (hK : va_K D cl tys s) {a : Nat} (t0 : Nat) {C : String} {cA : ClassId} {n v : Nat} {f : Nat → Option Nat} (hP : va_P D cl [(a, .inl (cA, n, .inr (.inr (.inr (.inr f)))))] H) (ht : tys[t0]? = some (cA, .object C)) (hr : va_Any C s H v) {i : Int32} (hin : vp_in i n) (hdg : decode cc pc = .ok (.aastore, 1))
    (kk : ∀ H1 : Heap, va_P D cl [(a, .inl (cA, n, .inr (.inr (.inr (.inr (va_up f i.toNatClampNeg (some v)))))))] H1 → H1.size = H.size → (∀ q : Nat, q ≠ a → H1[q]? = H[q]?) → W p l e R s m args below meth c H1 (locs ++ [⟨a, i.toNatClampNeg⟩]) cells slots Q (F0 m (pc + 1) ls rest)) : W p l e R s m args below meth c H locs cells slots Q (F0 m pc ls (.ref v :: .int i :: .ref a :: rest)) := by
  have hlt : i.toNatClampNeg < n := Nat.not_le.mp fun q => hin (Or.inr q)
  have h0 : ¬ i < 0 := fun q => hin (Or.inl q)
  obtain ⟨cellV, g1, g3, ⟨kC, hkC⟩, hasg⟩ := hr
  obtain ⟨kA, comp, k1, k2, k3, -⟩ := (hK.2 t0 _ ht).2
  obtain ⟨kE, hkE, -⟩ := Vm.findClass_spec k3
  refine W.aast hexec hb (hP 0 _ rfl) (fun q h => by cases h) (fun h => by cases h) k1 k2 rfl hkE ⟨h0, by show _ < (arrV _ _ _).slots.size; rw [arrV_size]; exact hlt⟩ g1 (fun q h => by rw [h] at g3; cases g3) hkC (hasg _ k3) rfl rfl hdg fun H1 e z oq => ?_
  refine kk H1 (fun k x hx => ?_) z oq
  have hz : k < 1 := (List.getElem?_eq_some_iff.mp hx).1
  rw [show k = 0 by omega] at hx
  cases hx
  show H1[a]? = some (vp_cell _ _)
  rw [e]
  rw [vp_cell_q, vp_cell_q, arrV_store]
  congr 2
  funext q
  by_cases hq : q = i.toNatClampNeg
  · subst hq
    simp [updV, va_up, va_rf]
  · simp [updV, va_up, hq]
end XNQ
theorem rY.poke {D : va_G} {r tx cB NN : Nat} {tp : Nat → Int32} {n : Nat} {s : State} {E : Nat → Prop} {ρ : tR} {Nn : Nat → Option va_E} {H H1 : Heap} {locs : List Loc} {a k : Nat} (Y : rY D r tx cB NN tp n s E ρ Nn H locs) (hz : H1.size = H.size) (hk : ∀ q : Nat, q ≠ a → H1[q]? = H[q]?) (hEa : E a) (hN : Nn a = none) (h1 : r ≠ a) (h2 : tx ≠ a) (ha : s.heap.size ≤ a) : rY D r tx cB NN tp n s E ρ Nn H1 (locs ++ [⟨a, k⟩]) := by
  obtain ⟨⟨wv, hP, hw⟩, hS, hNn, hEr⟩ := Y
  refine ⟨⟨wv, fun j q hq => ?_, hw.kept (fun q _ g => hk q (fun z => g (by rw [z]; exact hEa)))⟩, hS.put hz hk (Or.inr (Or.inr ha)), fun b x hx => ⟨(hNn b x hx).1.kept (hk b (fun z => by rw [z, hN] at hx; cases hx)), (hNn b x hx).2⟩, hEr⟩
  match j, hq with
  | 0, hq => cases hq; exact (hP 0 _ rfl).kept (hk _ h1)
  | 1, hq => cases hq; exact (hP 1 _ rfl).kept (hk _ h2)
/-- a node is a Node -/
theorem node_any {D : va_G} {tys : List (ClassId × FieldType)} {s : State} {H : Heap} {Nn : Nat → Option va_E} {r tx d a : Nat} {c : List Int32} (hK : va_K D vcl tys s) (hF : nFw s) (hN : nP D Nn r tx H) (hT : cTr Nn idA d a c) : va_Any "GateRoad$Node" s H a := by
  have go : ∀ (ci : Nat) (C : String) (T : u_T) (N : Nat) (fs : List Value), vcl[ci]? = some (C, T, N) → Nn a = some (.inr (ci, fs)) → (Cond.castable C "GateRoad$Node").before #[] s = true → va_Any "GateRoad$Node" s H a := by
    intro ci C T N fs hc hx hca
    have hP : va_P D vcl [(a, .inr (ci, fs))] H := by
      intro k q hq
      match k, hq with
      | 0, hq => cases hq; exact (hN a _ hx).1
    obtain ⟨cell, g1, g2, g3⟩ := va_recv hK hP (ci := ci) (q0 := 0) hc rfl
    obtain ⟨hfc, kB, hkB, -⟩ := (hK.1 ci _ hc).2
    have e9 : cell.cls = _ := Option.some.inj (g3.symm.trans hfc)
    exact ⟨cell, g1, g2, ⟨kB, by rw [e9]; exact hkB⟩, fun comp hcomp => vb_asgC (C := C) hca comp _ hcomp g3⟩
  cases d with
  | zero => exact hT.elim
  | succ d =>
    rcases hT with ⟨v, nm, h1, -⟩ | ⟨b, k1, c1, h1, -⟩ | ⟨sg, op, k1, k2, c1, c2, h1, -⟩
    · exact go 10 _ _ _ _ rfl h1 hF.1.2.2.2.2
    · exact go 11 _ _ _ _ rfl h1 hF.2.1.2.2.2.2
    · exact go 12 _ _ _ _ rfl h1 hF.2.2.2.2.2.2
def ptB (D : va_G) (r tx cB NN : Nat) (tp : Nat → Int32) (n : Nat) (ρ : tR) (Nn : Nat → Option va_E) (sz : Nat) (V : State) : Prop := pB D r tx cB NN tp n ρ Nn sz V ∧ va_AO "GateRoad$Node" V ∧ nFw V
theorem ptB_blind {as : List Value} {D : va_G} {r tx cB NN : Nat} {tp : Nat → Int32} {n : Nat} {ρ : tR} {Nn : Nat → Option va_E} {sz : Nat} : FrameBlind (va_Pc as (ptB D r tx cB NN tp n ρ Nn sz)) := fun a V g mk q => ⟨q.1, (pB_blind a V g mk ⟨q.1, q.2.1⟩).2, q.2.2.1.moved (Vm.Alike.refl V.vm), q.2.2.2.moved (Vm.Alike.refl V.vm)⟩
def ptQ (D : va_G) (r tx cB NN : Nat) (tp : Nat → Int32) (n sz : Nat) (Nn : Nat → Option va_E) (σ : Sum Nat (List Int32 × List Int32)) : Array Value → State → Outcome → State → Prop := fun _ st o t => va_F (rA r tx sz) st t ∧
  ((∃ (c0 c1 : List Int32) (ar a0 a1 : Nat) (cA : ClassId) (N1 : Nat → Option va_E), σ = .inr (c0, c1) ∧ o = .returned (some (.ref ar)) ∧ sz ≤ ar ∧ t.vm.findClass ("[" ++ (FieldType.object "GateRoad$Node").toString) = some cA ∧ va_P D vcl [(ar, .inl (cA, 2, .inr (.inr (.inr (.inr (va_up (va_up (fun _ => none) 0 (some a0)) 1 (some a1)))))))] t.heap ∧ N1 ar = none ∧ nP D N1 r tx t.heap ∧ nExt Nn N1 sz ∧ cTr N1 idA n a0 c0 ∧ cTr N1 idA n a1 c1 ∧ va_P D vcl [(tx, .inl (cB, NN, .inl tp))] t.heap) ∨
   (∃ (pl : Nat) (a : Nat), σ = .inl pl ∧ o = .threw a ∧ pl ≤ n ∧ sz ≤ a ∧ flt D tx cB NN tp a pl t))
set_option maxHeartbeats 4000000 in
theorem tX2_parts (l : Launch) (D : va_G) (r tx cB NN : Nat) (tp : Nat → Int32) (n : Nat) (ρ : tR) (Nn : Nat → Option va_E) (sz : Nat) (hn : n ≤ NN) (hN : NN < 2 ^ 31) (hne : r ≠ tx) (ha : ρ.1 ≤ n) (ho : ρ.2.2.1 = 0) : xMet l yX2_parts (ws_ yX2_parts cX2_parts 3 (some (.array (.object "GateRoad$Node")))) { frames := 52, cells := 5 * n + 6, slots := 36 * n + 42, locals := 1180 } (va_Pc [.ref r] (ptB D r tx cB NN tp n ρ Nn sz)) (ptQ D r tx cB NN tp n sz Nn (sParts tp n ρ)) (5 * n + 6) (36 * n + 42) (rA r tx sz) := by
  refine xg_entry (by decide) (Nat.le_of_ble_eq_true rfl) ?_
  intro p e s m args below meth c ls hx hb hml hown hts hlk hr0 hB hl hno
  obtain ⟨⟨⟨hsz, hE, hK, hKc⟩, hNn⟩, hAO, hF⟩ := hB
  subst hsz
  have hown : s.vm.findClass RX2 = some m.cls := hown
  have hl : lv_has ls 3 [(0, .ref r)] := hl
  have X : rX p s m args meth c cX2_parts 3 D r tx cB NN n := ⟨hx, hb, hml, hown, hts, hlk, hno, hK, hKc, hne, hn, hN⟩
  have Y : rY D r tx cB NN tp n s (fun q => q = r) ρ Nn s.heap [] := ⟨hE, va_S.rf, hNn, rfl⟩
  have hrs : r < s.heap.size := by obtain ⟨w9, h9, -⟩ := hE; exact (h9 0 _ rfl).lt
  have hts9 : tx < s.heap.size := by obtain ⟨w9, h9, -⟩ := hE; exact (h9 1 _ rfl).lt
  obtain ⟨ta, kad, hz1, hT1, hs1⟩ := hKc.2.2.2.2.2.2.2.2
  have hnl := hKc.1.2.1
  have hnw : ∀ k, k < 2 → (kyB k).length < 2 ^ 31 := fun k hk => by rcases (show k = 0 ∨ k = 1 by omega) with h | h <;> subst h <;> decide
  generalize eσ : sParts tp n ρ = σ
  refine va_getsN hx hb hz1 Y.2.1 hown (va_Nw.use rfl hnl) (fun _ h9 => h9) dX2_parts_0 ?_
  refine va_tlen hx hb hT1 Y.2.1 (v := 2) (by decide) dX2_parts_3 ?_
  refine x_newq hx hb hown (hts _ q250) hAO hK (n := 2) (N' := 2) (by decide) (by decide) (by decide) (by show 0 + 1 ≤ 5 * n + 6; omega) (by show 0 + 2 ≤ 36 * n + 42; omega) dX2_parts_4 (fun cA H hK2 hU hzH hoH => ?_)
  have Y0 := (Y.grow).keep (H1 := H) (locs1 := []) (by omega) hoH (fun q h => by cases h)
  have hN0 : Nn s.heap.size = none := by
    cases hc : Nn s.heap.size with
    | none => rfl
    | some x => exact absurd (hNn _ x hc).1.lt (Nat.lt_irrefl _)
  have hcA : s.vm.findClass ("[" ++ (FieldType.object "GateRoad$Node").toString) = some cA := by
    obtain ⟨_, _, _, _, _, h9⟩ := (hK2.2 1 _ rfl).2
    exact h9
  have hUlt : s.heap.size < H.size := by omega
  obtain ⟨ar, har⟩ : ∃ ar, ar = s.heap.size := ⟨_, rfl⟩
  rw [← har] at hU hN0
  have hra : r ≠ ar := by omega
  have hta : tx ≠ ar := by omega
  refine lv_astore_n (lv' := [(1, .ref s.heap.size), (0, .ref r)]) hx hb dX2_parts_7 rfl hl (by decide) rfl (fun ls hl => ?_)
  rw [← har] at hl
  refine lv_aload_n hx hb dX2_parts_8 rfl (lv_at hl 1 rfl) ?_
  refine rd_nx X Y0 (x_runV (C := RX2) (As := []) (rest := []) ⟨hx, hb, hml, hown, hts⟩ (tX2_next l D r tx cB NN tp n ρ H.size hn hN ha hne) (cwV 0 hts (lw_V q252 q254 qs0 q73 q255) rfl rfl rfl (by decide +kernel) ⟨Nat.le_of_ble_eq_true rfl, Nat.le_of_ble_eq_true rfl⟩) (rd_pre X Y0) rfl rfl hl.1 rfl (lv_room (Nat.le_of_ble_eq_true rfl)) dX2_parts_9 ⟨by show 0 + 1 + 4 ≤ 5 * n + 6; omega, by show 0 + 2 + 33 ≤ 36 * n + 42; omega⟩) (by omega) (by omega) (fun pl t a0 L g1 g2 g3 g4 g5 g6 => ?_) (fun ρf H1 locs1 g1 Y1 hz1H hk1 => ?_)
  · obtain ⟨j1, j2⟩ := sNext_inl ha g1
    exact ⟨g4, Or.inr ⟨pl, a0, by rw [← eσ]; simp only [sParts, g1], rfl, j2, g2, g3⟩⟩
  obtain ⟨j1, i1, j3⟩ := sNext_inr ha g1
  have hz01 : s.heap.size ≤ H1.size := Y1.2.1.1
  have hU1 : va_P D vcl [(ar, .inl (cA, 2, .inr (.inr (.inr (.inr (fun _ => none))))))] H1 := hU.kept (fun k q hq => by
    match k, hq with
    | 0, hq => cases hq; exact hk1 _ (by show ar < H.size; omega) hra.symm hta.symm)
  have PS : ∀ (k : Nat) (ρ1 : tR) (N1 : Nat → Option va_E) (E1 : Nat → Prop) (H : Heap) (locs : List Loc) (ls : Array Slot) (fa : Nat → Option Nat) (f1 : Nat), k < 2 → rInv n ρ1 → ρ1.2.2.1 = 0 → f1 ≤ ρ1.2.1 → rY D r tx cB NN tp n s E1 ρ1 N1 H locs → N1 ar = none → ar < H.size → va_P D vcl [(ar, .inl (cA, 2, .inr (.inr (.inr (.inr fa)))))] H → lv_has ls 3 [(2, .int (nI k)), (1, .ref ar), (0, .ref r)] → (∀ pl, sPart tp n k ρ1 = .inl pl → σ = .inl pl) →
      (∀ (cd : List Int32) (ρ2 : tR) (a : Nat) (N2 : Nat → Option va_E) (E2 : Nat → Prop) (H2 : Heap) (locs2 : List Loc) (ls2 : Array Slot), sPart tp n k ρ1 = .inr (cd, ρ2) → rInv n ρ2 → ρ2.2.2.1 = 0 → ρ1.2.1 < ρ2.2.1 → rY D r tx cB NN tp n s E2 ρ2 N2 H2 locs2 → nExt N1 N2 s.heap.size → N2 ar = none → ar < H2.size → cTr N2 idA n a cd → va_P D vcl [(ar, .inl (cA, 2, .inr (.inr (.inr (.inr (va_up fa k (some a)))))))] H2 → lv_has ls2 3 [(2, .int (nI (k + 1))), (1, .ref ar), (0, .ref r)] → W p l e { frames := 52, cells := 5 * n + 6, slots := 36 * n + 42, locals := 1180 } s m args below meth c H2 locs2 (5 + 5 * (ρ2.2.1 - f1)) (35 + 36 * (ρ2.2.1 - f1)) (xMQ below (ptQ D r tx cB NN tp n s.heap.size Nn σ) args s (5 * n + 6) (36 * n + 42) (rA r tx s.heap.size)) (F0 m 14 ls2 [])) →
      W p l e { frames := 52, cells := 5 * n + 6, slots := 36 * n + 42, locals := 1180 } s m args below meth c H locs (5 + 5 * (ρ1.2.1 - f1)) (35 + 36 * (ρ1.2.1 - f1)) (xMQ below (ptQ D r tx cB NN tp n s.heap.size Nn σ) args s (5 * n + 6) (36 * n + 42) (rA r tx s.heap.size)) (F0 m 14 ls []) := by
    intro k ρ1 N1 E1 H locs ls fa f1 hk i1 io hf1 Y hNar harl hU hl hfail K
    have i11 := i1.1
    have i12 := i1.2.1
    have hzz : s.heap.size ≤ H.size := Y.2.1.1
    refine lv_iload_n hx hb dX2_parts_14 rfl (lv_at hl 0 rfl) ?_
    refine va_getsN hx hb hz1 Y.2.1 hown (va_Nw.use rfl hnl) (fun _ h9 => h9) dX2_parts_15 ?_
    refine va_tlen hx hb hT1 Y.2.1 (v := nI 2) rfl dX2_parts_18 ?_
    refine lv_icmp_ge (tgt := 74) hx hb dX2_parts_19 (by decide) (fun h9 => absurd h9 (nI_ge hk (by decide))) (fun _ => ?_)
    refine lv_aload_n hx hb dX2_parts_22 rfl (lv_at hl 2 rfl) ?_
    refine va_getsN hx hb hz1 Y.2.1 hown (va_Nw.use rfl hnl) (fun _ h9 => h9) dX2_parts_23 ?_
    refine lv_iload_n hx hb dX2_parts_26 rfl (lv_at hl 0 rfl) ?_
    refine vb_tq hx hb hT1 Y.2.1 (v := .ref (kad k)) (nI_in hk (by decide)) (by rw [nI_clamp (by omega)]) dX2_parts_27 ?_
    refine rd_is X Y (hs1 k hk) (hnw k hk) ⟨Nat.le_of_ble_eq_true rfl, Nat.le_of_ble_eq_true rfl⟩ ⟨by show 5 + 5 * (ρ1.2.1 - f1) ≤ 5 * n + 6; omega, by show 35 + 36 * (ρ1.2.1 - f1) ≤ 36 * n + 42; omega⟩ hl.1 (Nat.le_of_ble_eq_true rfl) dX2_parts_28 ?_
    by_cases hw : ρ1.2.2.2.1 = some (kyB k)
    rotate_left
    · have hv : isV ρ1.2.2.2.1 (kyB k) = 0 := if_neg hw
      rw [hv]
      refine lv_if_ne (tgt := 39) hx hb dX2_parts_31 (by decide) (fun h9 => absurd rfl h9) (fun _ => ?_)
      refine lv_aload_n hx hb dX2_parts_34 rfl (lv_at hl 2 rfl) ?_
      obtain ⟨⟨wv, hP, hw99⟩, hS, -⟩ := Y
      exact rd_throw (A := rA r tx s.heap.size) hx hb hml hown hts hlk hno hK hKc.2.2.1 hP hS (fun q h => Or.inr (Or.inr h)) ⟨Nat.le_of_ble_eq_true rfl, Nat.le_of_ble_eq_true rfl⟩ ⟨by show 5 + 5 * (ρ1.2.1 - f1) + 1 ≤ 5 * n + 6; omega, by show 35 + 36 * (ρ1.2.1 - f1) + 7 ≤ 36 * n + 42; omega⟩ (by omega) (by omega) hl.1 dX2_parts_35 dX2_parts_38 (fun t a L h1 h2 h3 h4 h5 => ⟨h3, Or.inr ⟨_, a, hfail _ (by simp only [sPart, if_neg hw]), rfl, by omega, h1, h2⟩⟩)
    have hlt : ρ1.2.1 < ρ1.1 := i1.2.2.1 (Or.inl (by rw [hw]; exact fun z => by cases z))
    have hv : isV ρ1.2.2.2.1 (kyB k) = 1 := if_pos hw
    rw [hv]
    refine lv_if_ne (tgt := 39) hx hb dX2_parts_31 (by decide) (fun _ => ?_) (fun h9 => absurd h9 (by decide))
    refine lv_aload_n hx hb dX2_parts_39 rfl (lv_at hl 2 rfl) ?_
    refine rd_nx X Y (x_runV (C := RX2) (As := []) (rest := []) ⟨hx, hb, hml, hown, hts⟩ (tX2_next l D r tx cB NN tp n ρ1 H.size hn hN i12 hne) (cwV 0 hts (lw_V q252 q254 qs0 q73 q255) rfl rfl rfl (by decide +kernel) ⟨Nat.le_of_ble_eq_true rfl, Nat.le_of_ble_eq_true rfl⟩) (rd_pre X Y) rfl rfl hl.1 rfl (lv_room (Nat.le_of_ble_eq_true rfl)) dX2_parts_40 ⟨by show 5 + 5 * (ρ1.2.1 - f1) + 4 ≤ 5 * n + 6; omega, by show 35 + 36 * (ρ1.2.1 - f1) + 33 ≤ 36 * n + 42; omega⟩) (by omega) (by omega) (fun pl t a0 L g1 g2 g3 g4 g5 g6 => ?_) (fun ρ2 H1 locs1 g1 Y2 hz1 hk1 => ?_)
    · obtain ⟨j1, j2⟩ := sNext_inl i12 g1
      exact ⟨g4, Or.inr ⟨pl, a0, hfail pl (by simp only [sPart, if_pos hw, g1]), rfl, j2, g2, g3⟩⟩
    obtain ⟨j1, i2, j3⟩ := sNext_inr i12 g1
    have i21 := i2.1
    have i22 := i2.2.1
    have hU1 : va_P D vcl [(ar, .inl (cA, 2, .inr (.inr (.inr (.inr fa)))))] H1 := hU.kept (fun k q hq => by
      match k, hq with
      | 0, hq => cases hq; exact hk1 _ harl hra.symm hta.symm)
    refine lv_aload_n hx hb dX2_parts_43 rfl (lv_at hl 1 rfl) ?_
    refine lv_iload_n hx hb dX2_parts_44 rfl (lv_at hl 0 rfl) ?_
    refine lv_aload_n hx hb dX2_parts_45 rfl (lv_at hl 2 rfl) ?_
    have hz2 : s.heap.size ≤ H1.size := Y2.2.1.1
    refine rd_pr X Y2 (x_runV (C := RX2) (As := []) (rest := [.int (nI k), .ref ar]) ⟨hx, hb, hml, hown, hts⟩ ((levs l 5).2.2 D r tx cB NN tp n ρ2 N1 H1.size hn hN hne i2 (by omega)) (cwV 0 hts (lw_V q570 q572 qs5 q73 q573) rfl rfl rfl (by decide +kernel) ⟨Nat.le_of_ble_eq_true rfl, Nat.le_of_ble_eq_true rfl⟩) (rp_pre X Y2) rfl rfl hl.1 rfl (lv_room (Nat.le_of_ble_eq_true rfl)) dX2_parts_46 ⟨by show 5 + 5 * (ρ1.2.1 - f1) + 4 + (5 * (n - ρ2.2.1) + 1) ≤ 5 * n + 6; omega, by show 35 + 36 * (ρ1.2.1 - f1) + 33 + (36 * (n - ρ2.2.1) + 7) ≤ 36 * n + 42; omega⟩) (by omega) (by omega) (fun pl t a0 L k1 k2 k3 k4 k5 k6 k7 k8 => ?_) (fun cd ρ3 a N2 H2 locs2 k1 k2 k3 k4 Y3 kext kT kz kk => ?_)
    · exact ⟨k6, Or.inr ⟨pl, a0, hfail pl (by simp only [sPart, if_pos hw, g1]; rw [show (lev tp n 6).2.2 ρ2 = .inl pl from k1]), rfl, k3, k4, k5⟩⟩
    have k31 := k3.1
    have k32 := k3.2.1
    have hU2 : va_P D vcl [(ar, .inl (cA, 2, .inr (.inr (.inr (.inr fa)))))] H2 := hU1.kept (fun k q hq => by
      match k, hq with
      | 0, hq => cases hq; exact kk _ (by show ar < H1.size; omega) hra.symm hta.symm)
    have hN2 : N2 ar = none := by
      cases hc : N2 ar with
      | none => rfl
      | some x => exact absurd (kext.2 ar hNar (by rw [hc]; exact fun z => by cases z)) (by omega)
    refine x_aast hx hb hK2 1 hU2 rfl (node_any (hK2.sub [0] rfl) hF Y3.2.2.1 kT) (nI_in hk (by decide)) dX2_parts_49 (fun H3 hU3 hz3 ho3 => ?_)
    rw [nI_clamp (by omega)] at hU3
    have Y4 := Y3.poke (k := (nI k).toNatClampNeg) hz3 ho3 (show ar < H1.size by omega) hN2 hra hta (by omega)
    refine lv_aload_n hx hb dX2_parts_50 rfl (lv_at hl 2 rfl) ?_
    refine rg_sign X Y4 dX2_parts_51 ?_
    refine lv_bipush (v := 59) hx hb dX2_parts_54 (by decide) ?_
    refine lv_icmp_eq (tgt := 64) hx hb dX2_parts_56 (by decide) (fun hg => ?_) (fun hg => ?_)
    rotate_left
    · refine lv_aload_n hx hb dX2_parts_59 rfl (lv_at hl 2 rfl) ?_
      obtain ⟨⟨wv, hP, hw99⟩, hS, -⟩ := Y4
      exact rd_throw (A := rA r tx s.heap.size) hx hb hml hown hts hlk hno hK hKc.2.2.1 hP hS (fun q h => Or.inr (Or.inr h)) ⟨Nat.le_of_ble_eq_true rfl, Nat.le_of_ble_eq_true rfl⟩ ⟨by show 5 + 5 * (ρ1.2.1 - f1) + 4 + 5 * (ρ3.2.1 - ρ2.2.1) + 1 ≤ 5 * n + 6; omega, by show 35 + 36 * (ρ1.2.1 - f1) + 33 + 36 * (ρ3.2.1 - ρ2.2.1) + 7 ≤ 36 * n + 42; omega⟩ (by omega) (by omega) hl.1 dX2_parts_60 dX2_parts_63 (fun t a L h1 h2 h3 h4 h5 => ⟨h3, Or.inr ⟨_, a, hfail _ (by simp only [sPart, if_pos hw, g1]; rw [show (lev tp n 6).2.2 ρ2 = .inr (cd, ρ3) from k1]; simp only [if_neg hg]), rfl, by omega, h1, h2⟩⟩)
    have hlt3 : ρ3.2.1 < ρ3.1 := k3.2.2.1 (Or.inr (Or.inr (by rw [hg]; decide)))
    refine lv_aload_n hx hb dX2_parts_64 rfl (lv_at hl 2 rfl) ?_
    refine rd_nx X Y4 (x_runV (C := RX2) (As := []) (rest := []) ⟨hx, hb, hml, hown, hts⟩ (tX2_next l D r tx cB NN tp n ρ3 H3.size hn hN k32 hne) (cwV 0 hts (lw_V q252 q254 qs0 q73 q255) rfl rfl rfl (by decide +kernel) ⟨Nat.le_of_ble_eq_true rfl, Nat.le_of_ble_eq_true rfl⟩) (rd_pre X Y4) rfl rfl hl.1 rfl (lv_room (Nat.le_of_ble_eq_true rfl)) dX2_parts_65 ⟨by show 5 + 5 * (ρ1.2.1 - f1) + 4 + 5 * (ρ3.2.1 - ρ2.2.1) + 4 ≤ 5 * n + 6; omega, by show 35 + 36 * (ρ1.2.1 - f1) + 33 + 36 * (ρ3.2.1 - ρ2.2.1) + 33 ≤ 36 * n + 42; omega⟩) (by omega) (by omega) (fun pl t a0 L g1' g2 g3 g4 g5 g6 => ?_) (fun ρ4 H4 locs4 g1' Y5 hz4 hk4 => ?_)
    · obtain ⟨j1', j2'⟩ := sNext_inl k32 g1'
      exact ⟨g4, Or.inr ⟨pl, a0, hfail pl (by simp only [sPart, if_pos hw, g1]; rw [show (lev tp n 6).2.2 ρ2 = .inr (cd, ρ3) from k1]; simp only [if_pos hg, g1']), rfl, j2', g2, g3⟩⟩
    obtain ⟨j1', i4, j3'⟩ := sNext_inr k32 g1'
    have i41 := i4.1
    have i42 := i4.2.1
    have hU4 : va_P D vcl [(ar, .inl (cA, 2, .inr (.inr (.inr (.inr (va_up fa k (some a)))))))] H4 := hU3.kept (fun k q hq => by
      match k, hq with
      | 0, hq => cases hq; exact hk4 _ (by show ar < H3.size; omega) hra.symm hta.symm)
    refine lv_iinc (v := nI k + 1) (lv' := [(2, .int (nI k + 1)), (1, .ref ar), (0, .ref r)]) hx hb dX2_parts_68 hl (k := 0) rfl rfl (by decide) rfl (fun ls hl => ?_)
    refine lv_goto (tgt := 14) hx hb dX2_parts_71 (by decide) ?_
    refine W.widen (k := 5 + 5 * (ρ4.2.1 - f1)) (n := 35 + 36 * (ρ4.2.1 - f1)) (by omega) (by omega) ?_
    exact K cd ρ4 a N2 _ H4 locs4 ls (by simp only [sPart, if_pos hw, g1]; rw [show (lev tp n 6).2.2 ρ2 = .inr (cd, ρ3) from k1]; simp only [if_pos hg, g1']) i4 (by omega) (by omega) Y5 (kext.le hz2) hN2 (by omega) (cTr_mono (fun _ _ h => h) _ _ _ _ (by omega) kT) hU4 (by rw [← nI_1]; exact hl)
  refine lv_iconst (v := 0) hx hb dX2_parts_12 (by decide) ?_
  refine lv_istore_n (lv' := [(2, .int 0), (1, .ref ar), (0, .ref r)]) hx hb dX2_parts_13 rfl hl (by decide) rfl (fun ls hl => ?_)
  refine W.widen (k := 5 + 5 * (ρf.2.1 - ρf.2.1)) (n := 35 + 36 * (ρf.2.1 - ρf.2.1)) (by omega) (by omega) ?_
  have hfo : ρf.2.2.1 = 0 := by omega
  refine PS 0 ρf Nn _ H1 locs1 ls (fun _ => none) ρf.2.1 (by decide) i1 hfo (Nat.le_refl _) Y1 hN0 (by omega) hU1 (by rw [nI_0]; exact hl) (fun pl h => by rw [← eσ]; simp only [sParts, g1, h]) (fun c0 ρ2 a0 N2 E2 H2 locs2 ls2 p1 p2 p3 p4 Y2 pext pN par pT pU hl => ?_)
  refine PS 1 ρ2 N2 _ H2 locs2 ls2 _ ρf.2.1 (by decide) p2 p3 (by omega) Y2 pN par pU hl (fun pl h => by rw [← eσ]; simp only [sParts, g1, p1, h]) (fun c1 ρ3 a1 N3 E3 H3 locs3 ls3 r1 r2 r3 r4 Y3 rext rN rar rT rU hl => ?_)
  have r21 := r2.1
  have r22 := r2.2.1
  refine lv_iload_n hx hb dX2_parts_14 rfl (lv_at hl 0 rfl) ?_
  refine va_getsN hx hb hz1 Y3.2.1 hown (va_Nw.use rfl hnl) (fun _ h9 => h9) dX2_parts_15 ?_
  refine va_tlen hx hb hT1 Y3.2.1 (v := nI 2) rfl dX2_parts_18 ?_
  refine lv_icmp_ge (tgt := 74) hx hb dX2_parts_19 (by decide) (fun _ => ?_) (fun h9 => absurd (Int32.le_refl _) h9)
  have FA : (ρ3.1 < n ∨ ρ3.2.2.2.1 ≠ none ∨ ρ3.2.2.2.2.1 ≠ -1 ∨ ρ3.2.2.2.2.2 ≠ -1) → W p l e { frames := 52, cells := 5 * n + 6, slots := 36 * n + 42, locals := 1180 } s m args below meth c H3 locs3 (5 + 5 * (ρ3.2.1 - ρf.2.1)) (35 + 36 * (ρ3.2.1 - ρf.2.1)) (xMQ below (ptQ D r tx cB NN tp n s.heap.size Nn σ) args s (5 * n + 6) (36 * n + 42) (rA r tx s.heap.size)) (F0 m 108 ls3 []) := by
    intro hbad
    refine lv_aload_n hx hb dX2_parts_108 rfl (lv_at hl 2 rfl) ?_
    obtain ⟨⟨wv, hP, hw99⟩, hS, -⟩ := Y3
    exact rd_throw (A := rA r tx s.heap.size) hx hb hml hown hts hlk hno hK hKc.2.2.1 hP hS (fun q h => Or.inr (Or.inr h)) ⟨Nat.le_of_ble_eq_true rfl, Nat.le_of_ble_eq_true rfl⟩ ⟨by show 5 + 5 * (ρ3.2.1 - ρf.2.1) + 1 ≤ 5 * n + 6; omega, by show 35 + 36 * (ρ3.2.1 - ρf.2.1) + 7 ≤ 36 * n + 42; omega⟩ (by omega) (by omega) hl.1 dX2_parts_109 dX2_parts_112 (fun t a L h1 h2 h3 h4 h5 => ⟨h3, Or.inr ⟨_, a, (by rw [← eσ]; simp only [sParts, g1, p1, r1]; exact if_pos hbad), rfl, by omega, h1, h2⟩⟩)
  refine lv_aload_n hx hb dX2_parts_74 rfl (lv_at hl 2 rfl) ?_
  refine rg_at X Y3 dX2_parts_75 ?_
  refine lv_aload_n hx hb dX2_parts_78 rfl (lv_at hl 2 rfl) ?_
  refine rg_size X Y3 dX2_parts_79 ?_
  refine lv_icmp_lt (tgt := 108) hx hb dX2_parts_82 (by decide) (fun h => ?_) (fun h => ?_)
  · exact FA (Or.inl (Nat.not_le.mp fun z => (nI_nlt z (by omega)) h))
  have hat : ¬ ρ3.1 < n := fun z => h (nI_lt z (by omega))
  refine lv_aload_n hx hb dX2_parts_85 rfl (lv_at hl 2 rfl) ?_
  refine rg_word X Y3 dX2_parts_86 (fun hw => ?_) (fun hw t => ?_)
  rotate_left
  · refine lv_ifnonnull (tgt := 108) hx hb dX2_parts_89 (by decide) ?_
    exact FA (Or.inr (Or.inl hw))
  refine lv_ifnonnullN hx hb dX2_parts_89 ?_
  refine lv_aload_n hx hb dX2_parts_92 rfl (lv_at hl 2 rfl) ?_
  refine rg_number X Y3 dX2_parts_93 ?_
  refine lv_iconst (v := -1) hx hb dX2_parts_96 (by decide) ?_
  refine lv_icmp_ne (tgt := 108) hx hb dX2_parts_97 (by decide) (fun hnu => FA (Or.inr (Or.inr (Or.inl hnu)))) (fun hnu => ?_)
  refine lv_aload_n hx hb dX2_parts_100 rfl (lv_at hl 2 rfl) ?_
  refine rg_sign X Y3 dX2_parts_101 ?_
  refine lv_iconst (v := -1) hx hb dX2_parts_104 (by decide) ?_
  refine lv_icmp_eq (tgt := 113) hx hb dX2_parts_105 (by decide) (fun hsg => ?_) (fun hsg => FA (Or.inr (Or.inr (Or.inr hsg))))
  refine lv_aload_n hx hb dX2_parts_113 rfl (lv_at hl 1 rfl) ?_
  refine W.widen (k := 5 * n + 6) (n := 36 * n + 42) (by omega) (by omega) ?_
  obtain ⟨⟨wv, hP, hw9⟩, hS, hNn3, -⟩ := Y3
  have hσ : σ = .inr (c0, c1) := by
    rw [← eσ]
    simp only [sParts, g1, p1, r1]
    exact if_neg (fun z => z.elim hat (fun z => z.elim (fun z => z hw) (fun z => z.elim (fun z => z hnu) (fun z => z hsg))))
  exact W.mono (fun t h => h.x) (W.aret hx hb hr0 (Or.inr ⟨_, rfl⟩) (Or.inr ⟨_, rfl⟩) (fun t ht hW => ⟨hS.F ht, Or.inl ⟨c0, c1, ar, a0, a1, cA, N3, hσ, rfl, by omega, by rw [hW.alike.findClass]; exact hcA, by rw [ht]; exact rU, rN, by rw [ht]; exact hNn3, (pext.trans rext (Nat.le_refl _)), cTr_mono rext.1 _ _ _ _ (Nat.le_refl _) pT, rT, by rw [ht]; exact hP.sub [1] rfl⟩⟩) hS.2.2 dX2_parts_114 hlk)
set_option maxHeartbeats 1000000 in
theorem tX2_init (l : Launch) (D : va_G) (a tx n : Nat) : Met l yX2_init (ws_ yX2_init cX2_init 3 none) { frames := 1, cells := 0, slots := 0, locals := 12 } (va_Pc [.ref a, .ref tx, .int (nI n)] (niP D a 13 [.null, .int 0, .int 0, .int 0, .int 0, .null, .int 0, .int 0])) (niQ D a 13 (rdO tx n (0, 0, 0, none, 0, 0) .null)) 0 0 (fun q => q = a) := by
  refine g_entry (by decide) (Nat.le_of_ble_eq_true rfl) ?_
  intro p e s m args below meth c ls hx hb hml hown hts hlk hr hB hl hnm
  obtain ⟨hP, hK⟩ := hB
  have hl : lv_has ls 3 [(0, .ref a), (1, .ref tx), (2, .int (nI n))] := hl
  have hown : s.vm.findClass RX2 = some m.cls := hown
  have hin2 : meth.name = "<init>" := hnm
  have hD : va_D (fun q => q = a) [(a, .inr (13, [.null, .int 0, .int 0, .int 0, .int 0, .null, .int 0, .int 0]))] := vd_1 rfl
  have hS : va_S (fun q => q = a) s.heap s.heap [] := va_S.rf
  refine lv_aload_n hx hb dX2_init_0 rfl (lv_at hl 0 rfl) ?_
  refine W.objInit hx hb hown (hts _ q218) (hts _ q107) (hts _ q108) rfl (by rw [hml]; exact hl.1) rfl dX2_init_1 (Nat.le_of_ble_eq_true rfl) (Nat.le_of_ble_eq_true rfl) ?_
  refine W.eq (g2 := F0 m 4 ls []) rfl ?_
  refine lv_aload_n hx hb dX2_init_4 rfl (lv_at hl 0 rfl) ?_
  refine lv_iconst (v := 0) hx hb dX2_init_5 (by decide) ?_
  refine va_put (D := D) (ci := 13) (v := .int 0) (ty := tyX2 2) (C := RX2) (T := TX2) (N := 8) hx hb hts in_X2 tyX2 tyX2_ok nmX2 hown hK hP hD hS 0 rfl rfl 2 (by decide) (hts _ q221) (fun _ h9 => h9) rfl (by decide +kernel) (rfl) (rfl) (Nat.le_of_ble_eq_true rfl) dX2_init_6 (fun H locs hP hD hS => ?_)
  have hP : va_P D vcl [(a, .inr (13, [.null, .int 0, .int 0, .int 0, .int 0, .null, .int 0, .int 0]))] H := hP
  have hD : va_D (fun q => q = a) [(a, .inr (13, [.null, .int 0, .int 0, .int 0, .int 0, .null, .int 0, .int 0]))] := hD
  refine lv_aload_n hx hb dX2_init_9 rfl (lv_at hl 0 rfl) ?_
  refine lv_iconst (v := 0) hx hb dX2_init_10 (by decide) ?_
  refine va_put (D := D) (ci := 13) (v := .int 0) (ty := tyX2 3) (C := RX2) (T := TX2) (N := 8) hx hb hts in_X2 tyX2 tyX2_ok nmX2 hown hK hP hD hS 0 rfl rfl 3 (by decide) (hts _ q222) (fun _ h9 => h9) rfl (by decide +kernel) (rfl) (rfl) (Nat.le_of_ble_eq_true rfl) dX2_init_11 (fun H locs hP hD hS => ?_)
  have hP : va_P D vcl [(a, .inr (13, [.null, .int 0, .int 0, .int 0, .int 0, .null, .int 0, .int 0]))] H := hP
  have hD : va_D (fun q => q = a) [(a, .inr (13, [.null, .int 0, .int 0, .int 0, .int 0, .null, .int 0, .int 0]))] := hD
  refine lv_aload_n hx hb dX2_init_14 rfl (lv_at hl 0 rfl) ?_
  refine lv_iconst (v := 0) hx hb dX2_init_15 (by decide) ?_
  refine va_put (D := D) (ci := 13) (v := .int 0) (ty := tyX2 4) (C := RX2) (T := TX2) (N := 8) hx hb hts in_X2 tyX2 tyX2_ok nmX2 hown hK hP hD hS 0 rfl rfl 4 (by decide) (hts _ q223) (fun _ h9 => h9) rfl (by decide +kernel) (rfl) (rfl) (Nat.le_of_ble_eq_true rfl) dX2_init_16 (fun H locs hP hD hS => ?_)
  have hP : va_P D vcl [(a, .inr (13, [.null, .int 0, .int 0, .int 0, .int 0, .null, .int 0, .int 0]))] H := hP
  have hD : va_D (fun q => q = a) [(a, .inr (13, [.null, .int 0, .int 0, .int 0, .int 0, .null, .int 0, .int 0]))] := hD
  refine lv_aload_n hx hb dX2_init_19 rfl (lv_at hl 0 rfl) ?_
  refine lv_aload_n hx hb dX2_init_20 rfl (lv_at hl 1 rfl) ?_
  refine va_putF (D := D) (ci := 13) (v := .ref tx) (ty := tyX2 0) (C := RX2) (T := TX2) (N := 8) hx hb hts in_X2 tyX2 tyX2_ok nmX2 hown hK hP hD hS 0 rfl rfl 0 (by decide) (hts _ q219) (fun _ h9 => h9) rfl hin2 rfl (by decide +kernel) (rfl) (rfl) (Nat.le_of_ble_eq_true rfl) dX2_init_21 (fun H locs hP hD hS => ?_)
  have hP : va_P D vcl [(a, .inr (13, [.ref tx, .int 0, .int 0, .int 0, .int 0, .null, .int 0, .int 0]))] H := hP
  have hD : va_D (fun q => q = a) [(a, .inr (13, [.ref tx, .int 0, .int 0, .int 0, .int 0, .null, .int 0, .int 0]))] := hD
  refine lv_aload_n hx hb dX2_init_24 rfl (lv_at hl 0 rfl) ?_
  refine lv_iload_n hx hb dX2_init_25 rfl (lv_at hl 2 rfl) ?_
  refine va_putF (D := D) (ci := 13) (v := .int (nI n)) (ty := tyX2 1) (C := RX2) (T := TX2) (N := 8) hx hb hts in_X2 tyX2 tyX2_ok nmX2 hown hK hP hD hS 0 rfl rfl 1 (by decide) (hts _ q220) (fun _ h9 => h9) rfl hin2 rfl (by decide +kernel) (rfl) (rfl) (Nat.le_of_ble_eq_true rfl) dX2_init_26 (fun H locs hP hD hS => ?_)
  have hP : va_P D vcl [(a, .inr (13, [.ref tx, .int (nI n), .int 0, .int 0, .int 0, .null, .int 0, .int 0]))] H := hP
  have hD : va_D (fun q => q = a) [(a, .inr (13, [.ref tx, .int (nI n), .int 0, .int 0, .int 0, .null, .int 0, .int 0]))] := hD
  exact W.vret hx hb hr (fun t ht hW => ⟨⟨(), rfl, trivial, by show va_P _ _ _ t.heap; rw [ht]; exact hP⟩, hS.F ht⟩) hS.2.2 dX2_init_29 hlk
