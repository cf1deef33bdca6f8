/-! ===== constructors of the list and of a sheet; by gen/ctor1.py ===== -/
set_option maxRecDepth 100000
theorem cls_int {D : va_G} {cl : List vw_C} {tys : List (ClassId × FieldType)} {s : State} {x y : ClassId} (hK : va_K D cl tys s) {i j : Nat} (hi : tys[i]? = some (x, .int)) (hj : tys[j]? = some (y, .int)) : x = y := by
  have h1 : s.vm.findClass ("[" ++ FieldType.int.toString) = some x := (hK.2 i _ hi).2
  have h2 : s.vm.findClass ("[" ++ FieldType.int.toString) = some y := (hK.2 j _ hj).2
  exact Option.some.inj (h1.symm.trans h2)
/-- an array over [LGateRoad$Node; has been made -/
def va_AA (U : State) : Prop := (Cond.arrayOver (.array (.object "GateRoad$Node"))).before #[] U = true
theorem va_AA.spec {U : State} (h : va_AA U) : ∃ (comp c : ClassId) (k : Class), U.vm.findClass (FieldType.array (.object "GateRoad$Node")).toString = some comp ∧ (U.vm.classes.findIdx? fun (x : Class) => match x.kind with | .array component _ => component == comp | _ => false) = some c ∧ U.vm.classes[c]? = some k ∧ k.kind = .array comp (.array (.object "GateRoad$Node")) ∧ U.vm.findClass ("[" ++ (FieldType.array (.object "GateRoad$Node")).toString) = some c := by
  unfold va_AA Cond.before at h
  simp only [Cond.holds, Cond.value, beq_iff_eq] at h
  cases hc : U.vm.findClass (FieldType.array (.object "GateRoad$Node")).toString with
  | none => simp [hc] at h
  | some comp =>
    simp only [hc, Option.bind_some, Option.bind_eq_some_iff, Option.map_eq_some_iff] at h
    obtain ⟨c, hi, k, hk, hb⟩ := h
    obtain ⟨hlt, hp, -⟩ := Array.findIdx?_eq_some_iff_getElem.mp hi
    have hkk : U.vm.classes[c] = k := (Array.getElem?_eq_some_iff.mp hk).2
    rw [hkk] at hp
    cases hkind : k.kind with
    | array component ty =>
      rw [hkind] at hb hp
      simp at hb hp
      exact ⟨comp, c, k, rfl, hi, hk, by rw [hkind, hp, hb.1], hb.2⟩
    | _ => rw [hkind] at hb; simp at hb
theorem va_AA.moved {u U : State} (hvm : u.vm.Alike U.vm) (h : va_AA u) : va_AA U := by
  obtain ⟨comp, c, k, h1, h2, h3, h4, h5⟩ := h.spec
  obtain ⟨k', hk', he⟩ := hvm.2.2 _ _ h3
  have hi : (U.vm.classes.findIdx? fun (x : Class) => match x.kind with | .array component _ => component == comp | _ => false) = some c := by
    rw [hvm.findIdx?_eqK _ (fun _ => rfl)]
    exact h2
  have hkind : k'.kind = .array comp (.array (.object "GateRoad$Node")) := by rw [he]; exact h4
  have f1 : U.vm.findClass (FieldType.array (.object "GateRoad$Node")).toString = some comp := by rw [hvm.findClass]; exact h1
  have f2 : U.vm.findClass ("[" ++ (FieldType.array (.object "GateRoad$Node")).toString) = some c := by rw [hvm.findClass]; exact h5
  unfold va_AA Cond.before Cond.holds
  simp only [Cond.value]
  rw [f1, Option.bind_some]
  refine (congrArg (fun o : Option Nat => (o.bind (fun c => (U.vm.classes[c]?).map fun (k : Class) => match k.kind with | .array _ ty => decide (ty = FieldType.array (.object "GateRoad$Node")) && decide (U.vm.findClass ("[" ++ (FieldType.array (.object "GateRoad$Node")).toString) = some c) | _ => false) == some true)) hi).trans ?_
  simp [hk', hkind, f2]
section LAN
variable {p : Program} {l : Launch} {e : Env} {R : Room} {s : State} {m : MethodId} {args : Array Value} {below : List Frame} {meth : Method} {c : Code} {H : Heap} {locs : List Loc} {cells slots : Nat} {Q : State → Prop}
variable {cc : ByteArray} {pc : Nat} {ls : Array Slot} {rest : List Value} {D : va_G} {cl : List vw_C} {A : Nat → Prop} {tys : List (ClassId × FieldType)} {ws : va_W} {H0 : Heap}
theorem la_int (hx : p.tables.exec = Jvm.exec) (hb : c.code = cc) (hts : ∀ w ∈ lw_all, w.before args s = true) (hK : va_K D cl tys s) {t0 : Nat} {cA : ClassId} (ht : tys[t0]? = some (cA, .int)) (hP : va_P D cl ws H) (hD : va_D A ws) (hS : va_S A H0 H locs) (hA : ∀ q, H0.size ≤ q → A q) {n : Int32} {N' : Nat} (hn : ¬ n < 0) (hN : n.toNatClampNeg = N') (hbytes : N' * 4 ≤ 536870912) (hcells : cells + 1 ≤ R.cells) (hslots : slots + N' ≤ R.slots) (hdg : decode cc pc = .ok (.newarray .int, 2))
    (kk : ∀ (q : Nat) (H1 : Heap), va_P D cl (ws ++ [(q, .inl (cA, N', .inl (fun _ => 0)))]) H1 → va_D A (ws ++ [(q, .inl (cA, N', .inl (fun _ => 0)))]) → va_S A H0 H1 locs → W p l e R s m args below meth c H1 locs (cells + 1) (slots + N') Q (F0 m (pc + 2) ls (.ref q :: rest))) : W p l e R s m args below meth c H locs cells slots Q (F0 m pc ls (.int n :: rest)) := by
  refine va_newa (atype := .int) hx hb (hts _ q135) (ty := .int) rfl hK hP hD hS hA (N' := N') (a0 := (N', .inl (fun _ => 0))) (fun _ => rfl) hn hN hbytes hcells hslots hdg (fun q cA2 H1 hK2 hP hD hS => ?_)
  have e : cA = cA2 := cls_int hK2 (i := t0) (j := tys.length) (by rw [List.getElem?_append_left (List.getElem?_eq_some_iff.mp ht).1]; exact ht) (by simp)
  subst e
  exact kk q H1 hP hD hS
theorem la_byte (hx : p.tables.exec = Jvm.exec) (hb : c.code = cc) (hts : ∀ w ∈ lw_all, w.before args s = true) (hK : va_K D cl tys s) {t0 : Nat} {cA : ClassId} (ht : tys[t0]? = some (cA, .byte)) (hP : va_P D cl ws H) (hD : va_D A ws) (hS : va_S A H0 H locs) (hA : ∀ q, H0.size ≤ q → A q) {n : Int32} {N' : Nat} (hn : ¬ n < 0) (hN : n.toNatClampNeg = N') (hbytes : N' * 1 ≤ 536870912) (hcells : cells + 1 ≤ R.cells) (hslots : slots + N' ≤ R.slots) (hdg : decode cc pc = .ok (.newarray .byte, 2))
    (kk : ∀ (q : Nat) (H1 : Heap), va_P D cl (ws ++ [(q, .inl (cA, N', .inl (fun _ => 0)))]) H1 → va_D A (ws ++ [(q, .inl (cA, N', .inl (fun _ => 0)))]) → va_S A H0 H1 locs → W p l e R s m args below meth c H1 locs (cells + 1) (slots + N') Q (F0 m (pc + 2) ls (.ref q :: rest))) : W p l e R s m args below meth c H locs cells slots Q (F0 m pc ls (.int n :: rest)) := by
  refine va_newa (atype := .byte) hx hb (hts _ q160) (ty := .byte) rfl hK hP hD hS hA (N' := N') (a0 := (N', .inl (fun _ => 0))) (fun _ => rfl) hn hN hbytes hcells hslots hdg (fun q cA2 H1 hK2 hP hD hS => ?_)
  have e : cA = cA2 := cls_byte hK2 (i := t0) (j := tys.length) (by rw [List.getElem?_append_left (List.getElem?_eq_some_iff.mp ht).1]; exact ht) (by simp)
  subst e
  exact kk q H1 hP hD hS
theorem la_q (hx : p.tables.exec = Jvm.exec) (hb : c.code = cc) {own C : String} {index : Nat} (hown : s.vm.findClass own = some m.cls) (hcl : (Cond.classLink own index C).before args s = true) (hover : va_AO C s) (hK : va_K D cl tys s) {t0 : Nat} {cA : ClassId} (ht : tys[t0]? = some (cA, .object C)) (hP : va_P D cl ws H) (hD : va_D A ws) (hS : va_S A H0 H locs) (hA : ∀ q, H0.size ≤ q → A q) {n : Int32} {N' : Nat} (hn : ¬ n < 0) (hN : n.toNatClampNeg = N') (hbytes : N' * 4 ≤ 536870912) (hcells : cells + 1 ≤ R.cells) (hslots : slots + N' ≤ R.slots) (hdg : decode cc pc = .ok (.anewarray index, 3))
    (kk : ∀ (q : Nat) (H1 : Heap), va_P D cl (ws ++ [(q, .inl (cA, N', .inr (.inr (.inr (.inr (fun _ => none))))))]) H1 → va_D A (ws ++ [(q, .inl (cA, N', .inr (.inr (.inr (.inr (fun _ => none))))))]) → va_S A H0 H1 locs → W p l e R s m args below meth c H1 locs (cells + 1) (slots + N') Q (F0 m (pc + 3) ls (.ref q :: rest))) : W p l e R s m args below meth c H locs cells slots Q (F0 m pc ls (.int n :: rest)) := by
  refine va_newq (N' := N') hx hb hown hcl hover hK hP hD hS hA hn hN hbytes hcells hslots hdg (fun q cA2 H1 hK2 hP hD hS => ?_)
  have e : cA = cA2 := by
    obtain ⟨_, _, _, _, _, h9⟩ := (hK.2 t0 _ ht).2
    obtain ⟨_, _, _, _, _, h8⟩ := (hK2.2 tys.length (cA2, .object C) (by simp)).2
    exact Option.some.inj (h9.symm.trans h8)
  subst e
  exact kk q H1 hP hD hS
theorem la_aa (hx : p.tables.exec = Jvm.exec) (hb : c.code = cc) {own : String} {index : Nat} (hown : s.vm.findClass own = some m.cls) (hcl : (Cond.classLink own index "[LGateRoad$Node;").before args s = true) (hover : va_AA s) (hK : va_K D cl tys s) {t0 : Nat} {cA : ClassId} (ht : tys[t0]? = some (cA, .array (.object "GateRoad$Node"))) (hP : va_P D cl ws H) (hD : va_D A ws) (hS : va_S A H0 H locs) (hA : ∀ q, H0.size ≤ q → A q) {n : Int32} {N' : Nat} (hn : ¬ n < 0) (hN : n.toNatClampNeg = N') (hbytes : N' * 4 ≤ 536870912) (hcells : cells + 1 ≤ R.cells) (hslots : slots + N' ≤ R.slots) (hdg : decode cc pc = .ok (.anewarray index, 3))
    (kk : ∀ (q : Nat) (H1 : Heap), va_P D cl (ws ++ [(q, .inl (cA, N', .inr (.inr (.inr (.inr (fun _ => none))))))]) H1 → va_D A (ws ++ [(q, .inl (cA, N', .inr (.inr (.inr (.inr (fun _ => none))))))]) → va_S A H0 H1 locs → W p l e R s m args below meth c H1 locs (cells + 1) (slots + N') Q (F0 m (pc + 3) ls (.ref q :: rest))) : W p l e R s m args below meth c H locs cells slots Q (F0 m pc ls (.int n :: rest)) := by
  subst hN
  refine W.anewA (t := .object "GateRoad$Node") hx hb hown hcl hover rfl hdg rfl hn hbytes hcells hslots fun cA2 kA comp f1 f2 f3 f4 => ?_
  have e : cA = cA2 := Option.some.inj (((hK.2 t0 _ ht).2 : s.vm.findClass ("[" ++ (FieldType.array (.object "GateRoad$Node")).toString) = some cA).symm.trans f1)
  subst e
  generalize hH1 : H.push ({ cls := cA, slots := Array.replicate n.toNatClampNeg .null, vm := .none } : Cell) = H1
  have z1 : H1.size = H.size + 1 := by rw [← hH1, Array.size_push]
  have e1 : H1[H.size]? = some (arrV cA n.toNatClampNeg (fun _ => .null)) := by rw [← hH1, Array.getElem?_push_size, ← arrV_new]
  have o1 : ∀ q : Nat, q < H.size → H1[q]? = H[q]? := fun q hq => by rw [← hH1, Array.getElem?_push, if_neg (Nat.ne_of_lt hq)]
  have hk : ∀ (k : Nat) (x : Nat × va_E), ws[k]? = some x → H1[x.1]? = H[x.1]? := fun k x hx => o1 x.1 ((hP k x hx).lt)
  refine kk H.size H1 ((hP.kept hk).app (fun k x hx => ?_)) (hD.push hP rfl (hA _ hS.1)) ⟨Nat.le_trans hS.1 (by omega), fun x h1 h2 => (o1 x (Nat.lt_of_lt_of_le h1 hS.1)).trans (hS.2.1 x h1 h2), hS.2.2⟩
  have hz : k < 1 := (List.getElem?_eq_some_iff.mp hx).1
  rw [show k = 0 by omega] at hx
  cases hx
  show H1[H.size]? = some (vp_cell _ _)
  rw [vp_cell_q]
  exact e1
end LAN
set_option maxHeartbeats 1000000 in
theorem tJ0_init (l : Launch) (D : va_G) (a : Nat) : Met l yJ0_init (ws_ yJ0_init cJ0_init 1 none) { frames := 1, cells := 0, slots := 0, locals := 12 } (va_Pc [.ref a] (niP D a 9 [.int 0, .null, .int 0])) (niQ D a 9 [.int 0, .null, .int 0]) 0 0 (fun q => q = a) := by
  refine g_entry (by decide) (Nat.le_of_ble_eq_true rfl) ?_
  intro p e s m args below meth c ls hx hb hml hown hts hlk hr hB hl hnm
  obtain ⟨hP, hK⟩ := hB
  have hin2 : meth.name = "<init>" := hnm
  have hD : va_D (fun q => q = a) [(a, .inr (9, [.int 0, .null, .int 0]))] := vd_1 rfl
  have hS : va_S (fun q => q = a) s.heap s.heap [] := va_S.rf
  have hl : lv_has ls 1 [(0, .ref a)] := hl
  have hown : s.vm.findClass RJ0 = some m.cls := hown
  refine lv_aload_n hx hb dJ0_init_0 rfl (lv_at hl 0 rfl) ?_
  refine W.objInit hx hb hown (hts _ q120) (hts _ q107) (hts _ q108) rfl (by rw [hml]; exact hl.1) rfl dJ0_init_1 (Nat.le_of_ble_eq_true rfl) (Nat.le_of_ble_eq_true rfl) ?_
  refine W.eq (g2 := F0 m 4 ls []) rfl ?_
  exact W.vret hx hb hr (fun t ht hW => ⟨⟨(), rfl, trivial, by show va_P _ _ _ t.heap; rw [ht]; exact hP⟩, hS.F ht⟩) hS.2.2 dJ0_init_4 hlk
set_option maxHeartbeats 1000000 in
theorem tJ1_init (l : Launch) (D : va_G) (a : Nat) : Met l yJ1_init (ws_ yJ1_init cJ1_init 1 none) { frames := 2, cells := 0, slots := 0, locals := 40 } (va_Pc [.ref a] (niP D a 9 [.int 0, .null, .int 0])) (niQ D a 9 [.int 0, .null, .int 0]) 0 0 (fun q => q = a) := by
  refine g_entry (by decide) (Nat.le_of_ble_eq_true rfl) ?_
  intro p e s m args below meth c ls hx hb hml hown hts hlk hr hB hl hnm
  obtain ⟨hP, hK⟩ := hB
  have hin2 : meth.name = "<init>" := hnm
  have hD : va_D (fun q => q = a) [(a, .inr (9, [.int 0, .null, .int 0]))] := vd_1 rfl
  have hS : va_S (fun q => q = a) s.heap s.heap [] := va_S.rf
  have hl : lv_has ls 1 [(0, .ref a)] := hl
  have hown : s.vm.findClass RJ1 = some m.cls := hown
  refine lv_aload_n hx hb dJ1_init_0 rfl (lv_at hl 0 rfl) ?_
  refine va_callv (va_runI (As := []) (rest := []) ⟨hx, hb, hml, hown, hts⟩ (tJ0_init l D a) (cwI 0 hts (lw_meth q119) rfl rfl rfl (hts _ q65) (hts _ q117) (hts _ q118) rfl (by decide +kernel) ⟨Nat.le_of_ble_eq_true rfl, Nat.le_of_ble_eq_true rfl⟩) ⟨ni_blind, fun V hV hW => ⟨rfl, by rw [hV]; exact hP, va_K.moved hW.alike hK⟩⟩ rfl rfl hl.1 rfl (lv_room (Nat.le_of_ble_eq_true rfl)) dJ1_init_1 ⟨Nat.zero_le _, Nat.zero_le _⟩) hS (fun q _ h => h) (fun q h => h) (fun _ t H locs ht hvm _ hP _ _ hS => ?_)
  rw [ht] at hP
  refine lv_aload_n hx hb dJ1_init_4 rfl (lv_at hl 0 rfl) ?_
  refine lv_iconst (v := 0) hx hb dJ1_init_5 (by decide) ?_
  refine va_put (D := D) (ci := 9) (v := .int 0) (ty := tyJ2 0) (C := RJ2) (T := TJ2) (N := 3) hx hb hts in_J2 tyJ2 tyJ2_ok nmJ2 hown hK hP hD hS 0 rfl rfl 0 (by decide) (hts _ q125) (fun _ h9 => h9) rfl (by decide +kernel) (rfl) (rfl) (Nat.le_of_ble_eq_true rfl) dJ1_init_6 (fun H locs hP hD hS => ?_)
  have hP : va_P D vcl [(a, .inr (9, [.int 0, .null, .int 0]))] H := hP
  have hD : va_D (fun q => q = a) [(a, .inr (9, [.int 0, .null, .int 0]))] := hD
  exact W.vret hx hb hr (fun t ht hW => ⟨⟨(), rfl, trivial, by show va_P _ _ _ t.heap; rw [ht]; exact hP⟩, hS.F ht⟩) hS.2.2 dJ1_init_9 hlk
def liP (D : va_G) (a dd : Nat) (V : State) : Prop := niP D a 9 [.int 0, .null, .int 0] V ∧ va_Z "java/util/ArrayList" "DEFAULTCAPACITY_EMPTY_ELEMENTDATA" "[Ljava/lang/Object;" (.ref dd) (fun q => q = a) V V.heap
theorem li_blind {as : List Value} {D : va_G} {a dd : Nat} : FrameBlind (va_Pc as (liP D a dd)) := fun b V g mk q => ⟨q.1, (ni_blind b V g mk ⟨q.1, q.2.1⟩).2, va_Z.moved (Vm.Alike.refl V.vm) q.2.2⟩
set_option maxHeartbeats 1000000 in
theorem tJ2_init (l : Launch) (D : va_G) (a dd : Nat) : Met l yJ2_init (ws_ yJ2_init cJ2_init 1 none) { frames := 3, cells := 0, slots := 0, locals := 70 } (va_Pc [.ref a] (liP D a dd)) (niQ D a 9 [.int 0, .ref dd, .int 0]) 0 0 (fun q => q = a) := by
  refine g_entry (by decide) (Nat.le_of_ble_eq_true rfl) ?_
  intro p e s m args below meth c ls hx hb hml hown hts hlk hr hB hl hnm
  obtain ⟨⟨hP, hK⟩, hZ⟩ := hB
  have hin2 : meth.name = "<init>" := hnm
  have hD : va_D (fun q => q = a) [(a, .inr (9, [.int 0, .null, .int 0]))] := vd_1 rfl
  have hS : va_S (fun q => q = a) s.heap s.heap [] := va_S.rf
  have hl : lv_has ls 1 [(0, .ref a)] := hl
  have hown : s.vm.findClass RJ2 = some m.cls := hown
  refine lv_aload_n hx hb dJ2_init_0 rfl (lv_at hl 0 rfl) ?_
  refine va_callv (va_runI (As := []) (rest := []) ⟨hx, hb, hml, hown, hts⟩ (tJ1_init l D a) (cwI 0 hts (lw_meth q116) rfl rfl rfl (hts _ q66) (hts _ q114) (hts _ q115) rfl (by decide +kernel) ⟨Nat.le_of_ble_eq_true rfl, Nat.le_of_ble_eq_true rfl⟩) ⟨ni_blind, fun V hV hW => ⟨rfl, by rw [hV]; exact hP, va_K.moved hW.alike hK⟩⟩ rfl rfl hl.1 rfl (lv_room (Nat.le_of_ble_eq_true rfl)) dJ2_init_1 ⟨Nat.zero_le _, Nat.zero_le _⟩) hS (fun q _ h => h) (fun q h => h) (fun _ t H locs ht hvm _ hP _ _ hS => ?_)
  rw [ht] at hP
  refine lv_aload_n hx hb dJ2_init_4 rfl (lv_at hl 0 rfl) ?_
  refine va_gets hx hb hZ hS hown (hts _ q121) (fun _ h9 => h9) dJ2_init_5 ?_
  refine va_put (D := D) (ci := 9) (v := .ref dd) (ty := tyJ2 1) (C := RJ2) (T := TJ2) (N := 3) hx hb hts in_J2 tyJ2 tyJ2_ok nmJ2 hown hK hP hD hS 0 rfl rfl 1 (by decide) (hts _ q123) (fun _ h9 => h9) rfl (by decide +kernel) (rfl) (rfl) (Nat.le_of_ble_eq_true rfl) dJ2_init_8 (fun H locs hP hD hS => ?_)
  have hP : va_P D vcl [(a, .inr (9, [.int 0, .ref dd, .int 0]))] H := hP
  have hD : va_D (fun q => q = a) [(a, .inr (9, [.int 0, .ref dd, .int 0]))] := hD
  exact W.vret hx hb hr (fun t ht hW => ⟨⟨(), rfl, trivial, by show va_P _ _ _ t.heap; rw [ht]; exact hP⟩, hS.F ht⟩) hS.2.2 dJ2_init_11 hlk
def shP (D : va_G) (a cI sz : Nat) (V : State) : Prop := V.heap.size = sz ∧ va_P D vcl [(a, .inr (8, [.int 0, .int 0, .null]))] V.heap ∧ va_K D vcl [(cI, .int)] V
theorem sh_blind {as : List Value} {D : va_G} {a cI sz : Nat} : FrameBlind (va_Pc as (shP D a cI sz)) := fun b V g mk q => ⟨q.1, q.2.1, q.2.2.1, va_K.moved (u := V) (U := V.calling g mk b) (Vm.Alike.refl V.vm) q.2.2.2⟩
set_option maxHeartbeats 1000000 in
theorem tX1_init (l : Launch) (D : va_G) (a cI sz : Nat) : Met l yX1_init (ws_ yX1_init cX1_init 1 none) { frames := 1, cells := 1, slots := 40, locals := 12 } (va_Pc [.ref a] (shP D a cI sz)) (va_Qv (fun b : Nat => sz ≤ b) (fun b t => va_P D vcl [(a, .inr (8, [.int (-1), .int 0, .ref b])), (b, .inl (cI, 40, .inl (fun _ => 0)))] t.heap) (fun q => q = a ∨ sz ≤ q)) 1 40 (fun q => q = a ∨ sz ≤ q) := by
  refine g_entry (by decide) (Nat.le_of_ble_eq_true rfl) ?_
  intro p e s m args below meth c ls hx hb hml hown hts hlk hr hB hl hnm
  obtain ⟨hsz, hP, hK⟩ := hB
  subst hsz
  have hin2 : meth.name = "<init>" := hnm
  have hown : s.vm.findClass RX1 = some m.cls := hown
  have hA : ∀ q, s.heap.size ≤ q → (q = a ∨ s.heap.size ≤ q) := fun q h => Or.inr h
  have hD : va_D (fun q => q = a ∨ s.heap.size ≤ q) [(a, .inr (8, [.int 0, .int 0, .null]))] := vd_1 (Or.inl rfl)
  have hS : va_S (fun q => q = a ∨ s.heap.size ≤ q) s.heap s.heap [] := va_S.rf
  have hl : lv_has ls 1 [(0, .ref a)] := hl
  refine lv_aload_n hx hb dX1_init_0 rfl (lv_at hl 0 rfl) ?_
  refine W.objInit hx hb hown (hts _ q146) (hts _ q107) (hts _ q108) rfl (by rw [hml]; exact hl.1) rfl dX1_init_1 (Nat.le_of_ble_eq_true rfl) (Nat.le_of_ble_eq_true rfl) ?_
  refine W.eq (g2 := F0 m 4 ls []) rfl ?_
  refine lv_aload_n hx hb dX1_init_4 rfl (lv_at hl 0 rfl) ?_
  refine lv_iconst (v := (-1)) hx hb dX1_init_5 (by decide) ?_
  refine va_put (D := D) (ci := 8) (v := .int (-1)) (ty := tyX1 0) (C := RX1) (T := TX1) (N := 3) hx hb hts in_X1 tyX1 tyX1_ok nmX1 hown hK hP hD hS 0 rfl rfl 0 (by decide) (hts _ q147) (fun _ h9 => h9) rfl (by decide +kernel) (rfl) (rfl) (Nat.le_of_ble_eq_true rfl) dX1_init_6 (fun H locs hP hD hS => ?_)
  have hP : va_P D vcl [(a, .inr (8, [.int (-1), .int 0, .null]))] H := hP
  have hD : va_D (fun q => q = a ∨ s.heap.size ≤ q) [(a, .inr (8, [.int (-1), .int 0, .null]))] := hD
  refine lv_aload_n hx hb dX1_init_9 rfl (lv_at hl 0 rfl) ?_
  refine lv_iconst (v := 0) hx hb dX1_init_10 (by decide) ?_
  refine va_put (D := D) (ci := 8) (v := .int 0) (ty := tyX1 1) (C := RX1) (T := TX1) (N := 3) hx hb hts in_X1 tyX1 tyX1_ok nmX1 hown hK hP hD hS 0 rfl rfl 1 (by decide) (hts _ q149) (fun _ h9 => h9) rfl (by decide +kernel) (rfl) (rfl) (Nat.le_of_ble_eq_true rfl) dX1_init_11 (fun H locs hP hD hS => ?_)
  have hP : va_P D vcl [(a, .inr (8, [.int (-1), .int 0, .null]))] H := hP
  have hD : va_D (fun q => q = a ∨ s.heap.size ≤ q) [(a, .inr (8, [.int (-1), .int 0, .null]))] := hD
  refine lv_aload_n hx hb dX1_init_14 rfl (lv_at hl 0 rfl) ?_
  refine lv_bipush (v := 40) hx hb dX1_init_15 (by decide) ?_
  refine la_int hx hb hts hK (t0 := 0) rfl hP hD hS hA (N' := 40) (by decide) (by decide) (by decide) (Nat.le_of_ble_eq_true rfl) (Nat.le_of_ble_eq_true rfl) dX1_init_17 (fun b H hP hD hS => ?_)
  have hP : va_P D vcl [(a, .inr (8, [.int (-1), .int 0, .null])), (b, .inl (cI, 40, .inl (fun _ => 0)))] H := hP
  have hD : va_D (fun q => q = a ∨ s.heap.size ≤ q) [(a, .inr (8, [.int (-1), .int 0, .null])), (b, .inl (cI, 40, .inl (fun _ => 0)))] := hD
  refine va_putF (D := D) (ci := 8) (v := .ref b) (ty := tyX1 2) (C := RX1) (T := TX1) (N := 3) hx hb hts in_X1 tyX1 tyX1_ok nmX1 hown hK hP hD hS 0 rfl rfl 2 (by decide) (hts _ q151) (fun _ h9 => h9) rfl hin2 rfl (by decide +kernel) (rfl) (rfl) (Nat.le_of_ble_eq_true rfl) dX1_init_19 (fun H locs hP hD hS => ?_)
  have hP : va_P D vcl [(a, .inr (8, [.int (-1), .int 0, .ref b])), (b, .inl (cI, 40, .inl (fun _ => 0)))] H := hP
  have hD : va_D (fun q => q = a ∨ s.heap.size ≤ q) [(a, .inr (8, [.int (-1), .int 0, .ref b])), (b, .inl (cI, 40, .inl (fun _ => 0)))] := hD
  have hb2 : s.heap.size ≤ b := by
    rcases hD.2 1 _ rfl with h | h
    · exact absurd (hD.1 0 1 _ _ rfl rfl h.symm) (by decide)
    · exact h
  exact W.vret hx hb hr (fun t ht hW => ⟨⟨b, rfl, hb2, by show va_P _ _ _ t.heap; rw [ht]; exact hP⟩, hS.F ht⟩) hS.2.2 dX1_init_22 hlk
