/-! ===== ArrayList.add: the first of all, and where room is; by gen/alist.py ===== -/
set_option maxRecDepth 100000
theorem way_anyO {D : va_G} {tys : List (ClassId × FieldType)} {s : State} {H : Heap} {a kd : Nat} {fs : List Value} (hK : va_K D vcl tys s) (hN : cNw s) (hkd : kd < 6) (h : va_at D vcl (a, .inr (2 + kd, fs)) H) : va_Any "java/lang/Object" s H a := by
  have hP : va_P D vcl [(a, .inr (2 + kd, fs))] H := by
    intro k q hq
    match k, hq with
    | 0, hq => cases hq; exact h
  have go : ∀ (C : String) (T : u_T) (N : Nat), vcl[2 + kd]? = some (C, T, N) → (∀ comp c0 : ClassId, s.vm.findClass "java/lang/Object" = some comp → s.vm.findClass C = some c0 → s.vm.assignable c0 comp = true) → va_Any "java/lang/Object" s H a := by
    intro C T N hc hasg
    obtain ⟨cell, g1, g2, g3⟩ := va_recv hK hP (ci := 2 + kd) (q0 := 0) hc rfl
    obtain ⟨hfc, kB, hkB, -⟩ := (hK.1 (2 + kd) _ hc).2
    have e9 : cell.cls = _ := Option.some.inj (g3.symm.trans hfc)
    exact ⟨cell, g1, g2, ⟨kB, by rw [e9]; exact hkB⟩, fun comp hcomp => hasg comp _ hcomp g3⟩
  rcases lt6 hkd with h | h | h | h | h | h <;> subst h
  · exact go _ _ _ rfl (vb_asgC (C := "GateRoad$Way") (hN.1 _ _ (by decide)))
  · exact go _ _ _ rfl (vb_asgC (C := "GateRoad$Tolled") (hN.1 _ _ (by decide)))
  · exact go _ _ _ rfl (vb_asgC (C := "GateRoad$Numbered") (hN.1 _ _ (by decide)))
  · exact go _ _ _ rfl (vb_asgC (C := "GateRoad$Drawn") (hN.1 _ _ (by decide)))
  · exact go _ _ _ rfl (vb_asgC (C := "GateRoad$Last") (hN.1 _ _ (by decide)))
  · exact go _ _ _ rfl (vb_asgC (C := "GateRoad$Sorted") (hN.1 _ _ (by decide)))
def lA (a v d sz : Nat) : Nat → Prop := fun q => q = a ∨ q = v ∨ q = d ∨ sz ≤ q
abbrev lDn : String := "DEFAULTCAPACITY_EMPTY_ELEMENTDATA"
/-- the empty list's array -/
def zL (dd : Nat) (A : Nat → Prop) (V : State) (H : Heap) : Prop := va_Z "java/util/ArrayList" "DEFAULTCAPACITY_EMPTY_ELEMENTDATA" "[Ljava/lang/Object;" (.ref dd) A V H ∧ va_T (.object "java/lang/Object") dd 0 (fun _ => .null) A V H
theorem zL.moved {dd : Nat} {A : Nat → Prop} {u U : State} {H : Heap} (hvm : u.vm.Alike U.vm) (h : zL dd A u H) : zL dd A U H := ⟨h.1.moved hvm, h.2.moved hvm⟩
theorem zL.kept {dd : Nat} {A : Nat → Prop} {U : State} {H H1 : Heap} (h : zL dd A U H) (hq : ∀ a : Nat, a < H.size → ¬ A a → H1[a]? = H[a]?) : zL dd A U H1 := ⟨h.1.kept hq, h.2.kept hq⟩
theorem zL.narrow {dd : Nat} {A B : Nat → Prop} {U : State} {H : Heap} (h : zL dd A U H) (hAB : ∀ q, B q → A q) : zL dd B U H := ⟨h.1.narrow hAB, h.2.narrow hAB⟩
def l0C (a v dd kd : Nat) (mcn : Int32) (fs : List Value) : va_W := [(a, .inr (9, [.int mcn, .ref dd, .int 0])), (v, .inr (2 + kd, fs))]
def l1C (a v d cA kd : Nat) (mcn n : Int32) (fs : List Value) (f : Nat → Option Nat) : va_W := [(a, .inr (9, [.int mcn, .ref d, .int n])), (v, .inr (2 + kd, fs)), (d, .inl (cA, 10, .inr (.inr (.inr (.inr f)))))]
def l0B (D : va_G) (a v dd cA kd sz : Nat) (mcn : Int32) (fs : List Value) (V : State) : Prop := V.heap.size = sz ∧ va_P D vcl (l0C a v dd kd mcn fs) V.heap ∧ va_K D vcl [(cA, .object "java/lang/Object")] V ∧ cNw V ∧ zL dd (lA a v sz sz) V V.heap ∧ va_AO "java/lang/Object" V
def l1B (D : va_G) (a v d cA kd sz : Nat) (mcn n : Int32) (fs : List Value) (f : Nat → Option Nat) (V : State) : Prop := V.heap.size = sz ∧ va_P D vcl (l1C a v d cA kd mcn n fs f) V.heap ∧ va_K D vcl [(cA, .object "java/lang/Object")] V ∧ cNw V
theorem l0B_blind {as : List Value} {D : va_G} {a v dd cA kd sz : Nat} {mcn : Int32} {fs : List Value} : FrameBlind (va_Pc as (l0B D a v dd cA kd sz mcn fs)) := fun b V g mk q => by
  obtain ⟨q0, q1, q2, q3, q4, q5, q6⟩ := q
  exact ⟨q0, q1, q2, va_K.moved (u := V) (U := V.calling g mk b) (Vm.Alike.refl V.vm) q3, cNw.same rfl q4, q5.moved (Vm.Alike.refl V.vm), q6.moved (Vm.Alike.refl V.vm)⟩
theorem l1B_blind {as : List Value} {D : va_G} {a v d cA kd sz : Nat} {mcn n : Int32} {fs : List Value} {f : Nat → Option Nat} : FrameBlind (va_Pc as (l1B D a v d cA kd sz mcn n fs f)) := fun b V g mk q => by
  obtain ⟨q0, q1, q2, q3, q4⟩ := q
  exact ⟨q0, q1, q2, va_K.moved (u := V) (U := V.calling g mk b) (Vm.Alike.refl V.vm) q3, cNw.same rfl q4⟩
theorem va_K.sameA {D : va_G} {cl : List vw_C} {C : String} {cA cA2 : ClassId} {s : State} (hK : va_K D cl ([(cA, .object C)] ++ [(cA2, .object C)]) s) : cA2 = cA := by
  obtain ⟨_, _, _, _, _, h9⟩ := (hK.2 0 _ rfl).2
  obtain ⟨_, _, _, _, _, h8⟩ := (hK.2 1 _ rfl).2
  exact Option.some.inj (h8.symm.trans h9)
theorem vd_3 {A : Nat → Prop} {a b c : Nat} {x y z : va_E} (hab : a ≠ b) (hac : a ≠ c) (hbc : b ≠ c) (h1 : A a) (h2 : A b) (h3 : A c) : va_D A [(a, x), (b, y), (c, z)] := by
  refine ⟨fun i j p q hi hj he => ?_, fun k q hk => ?_⟩
  · match i, j, hi, hj with
    | 0, 0, _, _ => rfl
    | 1, 1, _, _ => rfl
    | 2, 2, _, _ => rfl
    | 0, 1, hi, hj => cases hi; cases hj; exact absurd he hab
    | 1, 0, hi, hj => cases hi; cases hj; exact absurd he.symm hab
    | 0, 2, hi, hj => cases hi; cases hj; exact absurd he hac
    | 2, 0, hi, hj => cases hi; cases hj; exact absurd he.symm hac
    | 1, 2, hi, hj => cases hi; cases hj; exact absurd he hbc
    | 2, 1, hi, hj => cases hi; cases hj; exact absurd he.symm hbc
  · match k, hk with
    | 0, hk => cases hk; exact h1
    | 1, hk => cases hk; exact h2
    | 2, hk => cases hk; exact h3

set_option maxHeartbeats 2000000 in
theorem tJ2_grow_2 (l : Launch) (D : va_G) (a v dd cA kd sz : Nat) (mcn : Int32) (fs : List Value) (hne : a ≠ v) : Met l yJ2_grow_2 (ws_ yJ2_grow_2 cJ2_grow_2 4 (some (.array (.object "java/lang/Object")))) { frames := 1, cells := 1, slots := 10, locals := 30 } (va_Pc [.ref a, .int 1] (l0B D a v dd cA kd sz mcn fs)) (va_Qr (fun _ : Unit => True) (fun _ d t => sz ≤ d ∧ va_P D vcl (l1C a v d cA kd mcn 0 fs (fun _ => none)) t.heap) (lA a v sz sz)) 1 10 (lA a v sz sz) := by
  refine g_entry (by decide) (Nat.le_of_ble_eq_true rfl) ?_
  intro p e s m args below meth c ls hx hb hml hown hts hlk hr hB hl _
  obtain ⟨hsz, hP, hK, hN, ⟨hZ, hT⟩, hAO⟩ := id hB
  subst hsz
  have hown : s.vm.findClass RJ2 = some m.cls := hown
  have hS : va_S (lA a v s.heap.size s.heap.size) s.heap s.heap [] := va_S.rf
  have hAg : ∀ q, s.heap.size ≤ q → lA a v s.heap.size s.heap.size q := fun q h => Or.inr (Or.inr (Or.inr h))
  have hD : va_D (lA a v s.heap.size s.heap.size) (l0C a v dd kd mcn fs) := vd_2 hne (Or.inl rfl) (Or.inr (Or.inl rfl))
  have hP : va_P D vcl [(a, .inr (9, [.int mcn, .ref dd, .int 0])), (v, .inr (2 + kd, fs))] s.heap := hP
  have hl : lv_has ls 4 [(0, .ref a), (1, .int 1)] := hl
  refine lv_aload_n hx hb dJ2_grow_2_0 rfl (lv_at hl 0 rfl) ?_
  refine va_get hx hb hts in_J2 hown hK hP 0 rfl rfl 1 (by decide) (hts _ q123) (fun _ h9 => h9) rfl dJ2_grow_2_1 ?_
  refine va_tlen hx hb hT hS (v := 0) (by decide) dJ2_grow_2_4 ?_
  refine lv_istore_n (lv' := [(2, .int 0), (0, .ref a), (1, .int 1)]) hx hb dJ2_grow_2_5 rfl hl (by decide) rfl (fun ls hl => ?_)
  refine lv_iload_n hx hb dJ2_grow_2_6 rfl (lv_at hl 0 rfl) ?_
  refine lv_if_gt (tgt := 20) hx hb dJ2_grow_2_7 (by decide) (fun h9 => absurd h9 (by decide)) (fun _ => ?_)
  refine lv_aload_n hx hb dJ2_grow_2_10 rfl (lv_at hl 1 rfl) ?_
  refine va_get hx hb hts in_J2 hown hK hP 0 rfl rfl 1 (by decide) (hts _ q123) (fun _ h9 => h9) rfl dJ2_grow_2_11 ?_
  refine va_gets hx hb hZ hS hown (hts _ q121) (fun _ h9 => h9) dJ2_grow_2_14 ?_
  refine lv_acmp_eq (rx := some dd) (ry := some dd) (tgt := 45) hx hb dJ2_grow_2_17 (by decide) (fun _ => ?_) (fun h9 => absurd rfl h9)
  refine lv_aload_n hx hb dJ2_grow_2_45 rfl (lv_at hl 1 rfl) ?_
  refine lv_bipush (v := 10) hx hb dJ2_grow_2_46 (by decide) ?_
  refine lv_iload_n hx hb dJ2_grow_2_48 rfl (lv_at hl 2 rfl) ?_
  refine va_mmax hx hb (by rw [hml, hl.1]) hown (hts _ q921) (hts _ q321) (hts _ q77) (hts _ q322) (Nat.le_of_ble_eq_true rfl) (Nat.le_of_ble_eq_true rfl) (Nat.le_of_ble_eq_true rfl) (Nat.le_of_ble_eq_true rfl) dJ2_grow_2_49 ?_
  refine W.eq (g2 := F0 m 52 ls [.int 10, .ref a]) rfl ?_
  refine va_newq (N' := 10) hx hb hown (hts _ q922) hAO hK hP hD hS hAg (by decide) (by decide) (by decide) (Nat.le_of_ble_eq_true rfl) (Nat.le_of_ble_eq_true rfl) dJ2_grow_2_52 (fun d cA2 H hK2 hP hD hS => ?_)
  have ecA := hK2.sameA
  subst ecA
  have hP : va_P D vcl [(a, .inr (9, [.int mcn, .ref dd, .int 0])), (v, .inr (2 + kd, fs)), (d, .inl (cA2, 10, .inr (.inr (.inr (.inr (fun _ => none))))))] H := hP
  have hD : va_D (lA a v s.heap.size s.heap.size) [(a, .inr (9, [.int mcn, .ref dd, .int 0])), (v, .inr (2 + kd, fs)), (d, .inl (cA2, 10, .inr (.inr (.inr (.inr (fun _ => none))))))] := hD
  have hds : s.heap.size ≤ d := by
    rcases hD.2 2 _ rfl with h | h | h | h
    · exact absurd (hD.1 0 2 _ _ rfl rfl h.symm) (by decide)
    · exact absurd (hD.1 1 2 _ _ rfl rfl h.symm) (by decide)
    · exact Nat.le_of_eq h.symm
    · exact h
  refine lv_dup_x1 hx hb dJ2_grow_2_55 rfl rfl ?_
  refine va_put (D := D) (ci := 9) (v := .ref d) (ty := tyJ2 1) (C := RJ2) (T := TJ2) (N := 3) hx hb hts in_J2 tyJ2 tyJ2_ok nmJ2 hown hK hP hD hS 0 rfl rfl 1 (by decide) (hts _ q123) (fun _ h9 => h9) rfl (by decide +kernel) (rfl) (rfl) (Nat.le_of_ble_eq_true rfl) dJ2_grow_2_56 (fun H locs hP hD hS => ?_)
  have hP : va_P D vcl [(a, .inr (9, [.int mcn, .ref d, .int 0])), (v, .inr (2 + kd, fs)), (d, .inl (cA2, 10, .inr (.inr (.inr (.inr (fun _ => none))))))] H := hP
  have hD : va_D (lA a v s.heap.size s.heap.size) [(a, .inr (9, [.int mcn, .ref d, .int 0])), (v, .inr (2 + kd, fs)), (d, .inl (cA2, 10, .inr (.inr (.inr (.inr (fun _ => none))))))] := hD
  exact W.aret hx hb hr (Or.inr ⟨_, rfl⟩) (Or.inr ⟨d, rfl⟩) (fun t ht hW => ⟨⟨(), d, rfl, trivial, hds, by rw [ht]; exact hP⟩, hS.F ht⟩) hS.2.2 dJ2_grow_2_59 hlk
set_option maxHeartbeats 2000000 in
theorem tJ2_grow (l : Launch) (D : va_G) (a v dd cA kd sz : Nat) (mcn : Int32) (fs : List Value) (hne : a ≠ v) : Met l yJ2_grow (ws_ yJ2_grow cJ2_grow 1 (some (.array (.object "java/lang/Object")))) { frames := 2, cells := 1, slots := 10, locals := 60 } (va_Pc [.ref a] (l0B D a v dd cA kd sz mcn fs)) (va_Qr (fun _ : Unit => True) (fun _ d t => sz ≤ d ∧ va_P D vcl (l1C a v d cA kd mcn 0 fs (fun _ => none)) t.heap) (lA a v sz sz)) 1 10 (lA a v sz sz) := by
  refine g_entry (by decide) (Nat.le_of_ble_eq_true rfl) ?_
  intro p e s m args below meth c ls hx hb hml hown hts hlk hr hB hl _
  obtain ⟨hsz, hP, hK, hN, ⟨hZ, hT⟩, hAO⟩ := id hB
  subst hsz
  have hown : s.vm.findClass RJ2 = some m.cls := hown
  have hS : va_S (lA a v s.heap.size s.heap.size) s.heap s.heap [] := va_S.rf
  have hAg : ∀ q, s.heap.size ≤ q → lA a v s.heap.size s.heap.size q := fun q h => Or.inr (Or.inr (Or.inr h))
  have hD : va_D (lA a v s.heap.size s.heap.size) (l0C a v dd kd mcn fs) := vd_2 hne (Or.inl rfl) (Or.inr (Or.inl rfl))
  have hP : va_P D vcl [(a, .inr (9, [.int mcn, .ref dd, .int 0])), (v, .inr (2 + kd, fs))] s.heap := hP
  have hl : lv_has ls 1 [(0, .ref a)] := hl
  refine lv_aload_n hx hb dJ2_grow_0 rfl (lv_at hl 0 rfl) ?_
  refine lv_aload_n hx hb dJ2_grow_1 rfl (lv_at hl 0 rfl) ?_
  refine va_get hx hb hts in_J2 hown hK hP 0 rfl rfl 2 (by decide) (hts _ q124) (fun _ h9 => h9) rfl dJ2_grow_2 ?_
  refine lv_iconst (v := 1) hx hb dJ2_grow_5 (by decide) ?_
  refine lv_iadd hx hb dJ2_grow_6 ?_
  refine W.eq (g2 := F0 m 7 ls [.int 1, .ref a]) rfl ?_
  refine va_callr (va_runV (C := RJ2) (As := [.int 1]) (rest := []) ⟨hx, hb, hml, hown, hts⟩ (tJ2_grow_2 l D a v dd cA kd s.heap.size mcn fs hne) (cwV 1 hts (lw_V q883 q885 qs16 q67 q886) rfl rfl rfl (by decide +kernel) ⟨Nat.le_of_ble_eq_true rfl, Nat.le_of_ble_eq_true rfl⟩) ⟨l0B_blind, va_recv hK hP (ci := 9) (q0 := 0) rfl rfl, fun U hU hW => ⟨rfl, by rw [hU], by rw [hU]; exact hP, va_K.moved hW.alike hK, cNw.warm hW hN, by rw [hU]; exact (zL.moved hW.alike (zL.kept ⟨hZ, hT⟩ hS.2.1)).narrow (fun q h => h), va_AO.moved hW.alike hAO⟩⟩ rfl rfl hl.1 rfl (lv_room (Nat.le_of_ble_eq_true rfl)) dJ2_grow_7 ⟨Nat.le_of_ble_eq_true rfl, Nat.le_of_ble_eq_true rfl⟩) hS (fun q _ h => h) (fun q h => h) (fun _ d t H1 locs1 ht hvm _ hB _ _ hS => ?_)
  exact W.aret hx hb hr (Or.inr ⟨_, rfl⟩) (Or.inr ⟨d, rfl⟩) (fun t2 ht2 hW => ⟨⟨(), d, rfl, trivial, hB.1, by rw [ht2, ← ht]; exact hB.2⟩, hS.F ht2⟩) hS.2.2 dJ2_grow_10 hlk
set_option maxHeartbeats 2000000 in
theorem tJ2_add_2 (l : Launch) (D : va_G) (a v d cA kd sz : Nat) (mcn : Int32) (n : Nat) (fs : List Value) (f : Nat → Option Nat) (h1 : a ≠ v) (h2 : a ≠ d) (h3 : v ≠ d) (hkd : kd < 6) (hn : n < 10) : Met l yJ2_add_2 (ws_ yJ2_add_2 cJ2_add_2 4 none) { frames := 0, cells := 0, slots := 0, locals := 0 } (va_Pc [.ref a, .ref v, .ref d, .int (nI n)] (l1B D a v d cA kd sz mcn (nI n) fs f)) (va_Qv (fun _ : Unit => True) (fun _ t => va_P D vcl (l1C a v d cA kd mcn (nI (n + 1)) fs (va_up f n (some v))) t.heap) (lA a v d sz)) 0 0 (lA a v d sz) := by
  refine g_entry (by decide) (Nat.le_of_ble_eq_true rfl) ?_
  intro p e s m args below meth c ls hx hb hml hown hts hlk hr hB hl _
  obtain ⟨hsz, hP, hK, hN⟩ := id hB
  subst hsz
  have hown : s.vm.findClass RJ2 = some m.cls := hown
  have hS : va_S (lA a v d s.heap.size) s.heap s.heap [] := va_S.rf
  have hD : va_D (lA a v d s.heap.size) (l1C a v d cA kd mcn (nI n) fs f) := vd_3 h1 h2 h3 (Or.inl rfl) (Or.inr (Or.inl rfl)) (Or.inr (Or.inr (Or.inl rfl)))
  have hP : va_P D vcl [(a, .inr (9, [.int mcn, .ref d, .int (nI n)])), (v, .inr (2 + kd, fs)), (d, .inl (cA, 10, .inr (.inr (.inr (.inr f)))))] s.heap := hP
  have hl : lv_has ls 4 [(0, .ref a), (1, .ref v), (2, .ref d), (3, .int (nI n))] := hl
  refine lv_iload_n hx hb dJ2_add_2_0 rfl (lv_at hl 3 rfl) ?_
  refine lv_aload_n hx hb dJ2_add_2_1 rfl (lv_at hl 2 rfl) ?_
  refine va_alen hx hb hK hP 2 0 rfl rfl (v := 10) (show Int32.ofNat 10 = 10 from by decide) dJ2_add_2_2 ?_
  refine lv_icmp_ne (tgt := 11) hx hb dJ2_add_2_3 (by decide) (fun _ => ?_) (fun h9 => absurd h9 (show ¬ nI n = 10 from fun z => absurd ((nI_eq (by omega) (by decide)).mp (show nI n = nI 10 from z)) (by omega)))
  refine lv_aload_n hx hb dJ2_add_2_11 rfl (lv_at hl 2 rfl) ?_
  refine lv_iload_n hx hb dJ2_add_2_12 rfl (lv_at hl 3 rfl) ?_
  refine lv_aload_n hx hb dJ2_add_2_13 rfl (lv_at hl 1 rfl) ?_
  refine va_astqM hx hb hK hP hD hS 2 0 rfl rfl (way_anyO hK hN hkd (hP 1 _ rfl)) (nI_in hn (by decide)) dJ2_add_2_14 (fun H locs hP hD hS => ?_)
  rw [nI_clamp (by omega)] at hP hD
  have hP : va_P D vcl [(a, .inr (9, [.int mcn, .ref d, .int (nI n)])), (v, .inr (2 + kd, fs)), (d, .inl (cA, 10, .inr (.inr (.inr (.inr (va_up f n (some v)))))))] H := hP
  have hD : va_D (lA a v d s.heap.size) [(a, .inr (9, [.int mcn, .ref d, .int (nI n)])), (v, .inr (2 + kd, fs)), (d, .inl (cA, 10, .inr (.inr (.inr (.inr (va_up f n (some v)))))))] := hD
  refine lv_aload_n hx hb dJ2_add_2_15 rfl (lv_at hl 0 rfl) ?_
  refine lv_iload_n hx hb dJ2_add_2_16 rfl (lv_at hl 3 rfl) ?_
  refine lv_iconst (v := 1) hx hb dJ2_add_2_17 (by decide) ?_
  refine lv_iadd hx hb dJ2_add_2_18 ?_
  refine va_put (D := D) (ci := 9) (v := .int ((nI n) + 1)) (ty := tyJ2 2) (C := RJ2) (T := TJ2) (N := 3) hx hb hts in_J2 tyJ2 tyJ2_ok nmJ2 hown hK hP hD hS 0 rfl rfl 2 (by decide) (hts _ q124) (fun _ h9 => h9) rfl (by decide +kernel) (rfl) (rfl) (Nat.le_of_ble_eq_true rfl) dJ2_add_2_19 (fun H locs hP hD hS => ?_)
  have hP : va_P D vcl [(a, .inr (9, [.int mcn, .ref d, .int ((nI n) + 1)])), (v, .inr (2 + kd, fs)), (d, .inl (cA, 10, .inr (.inr (.inr (.inr (va_up f n (some v)))))))] H := hP
  have hD : va_D (lA a v d s.heap.size) [(a, .inr (9, [.int mcn, .ref d, .int ((nI n) + 1)])), (v, .inr (2 + kd, fs)), (d, .inl (cA, 10, .inr (.inr (.inr (.inr (va_up f n (some v)))))))] := hD
  exact W.vret hx hb hr (fun t ht hW => ⟨⟨(), rfl, trivial, by show va_P _ _ _ t.heap; rw [ht, ← nI_1]; exact hP⟩, hS.F ht⟩) hS.2.2 dJ2_add_2_22 hlk
set_option maxHeartbeats 2000000 in
theorem tJ2_add_2_0 (l : Launch) (D : va_G) (a v dd cA kd sz : Nat) (mcn : Int32) (fs : List Value) (hne : a ≠ v) (hkd : kd < 6) : Met l yJ2_add_2 (ws_ yJ2_add_2 cJ2_add_2 4 none) { frames := 3, cells := 1, slots := 10, locals := 90 } (va_Pc [.ref a, .ref v, .ref dd, .int 0] (l0B D a v dd cA kd sz mcn fs)) (va_Qv (fun _ : Nat => True) (fun d t => sz ≤ d ∧ va_P D vcl (l1C a v d cA kd mcn 1 fs (va_up (fun _ => none) 0 (some v))) t.heap) (lA a v sz sz)) 1 10 (lA a v sz sz) := by
  refine g_entry (by decide) (Nat.le_of_ble_eq_true rfl) ?_
  intro p e s m args below meth c ls hx hb hml hown hts hlk hr hB hl _
  obtain ⟨hsz, hP, hK, hN, ⟨hZ, hT⟩, hAO⟩ := id hB
  subst hsz
  have hown : s.vm.findClass RJ2 = some m.cls := hown
  have hS : va_S (lA a v s.heap.size s.heap.size) s.heap s.heap [] := va_S.rf
  have hAg : ∀ q, s.heap.size ≤ q → lA a v s.heap.size s.heap.size q := fun q h => Or.inr (Or.inr (Or.inr h))
  have hD : va_D (lA a v s.heap.size s.heap.size) (l0C a v dd kd mcn fs) := vd_2 hne (Or.inl rfl) (Or.inr (Or.inl rfl))
  have hP : va_P D vcl [(a, .inr (9, [.int mcn, .ref dd, .int 0])), (v, .inr (2 + kd, fs))] s.heap := hP
  have hP0 := hP 0 _ rfl
  have hP1 := hP 1 _ rfl
  have hl : lv_has ls 4 [(0, .ref a), (1, .ref v), (2, .ref dd), (3, .int 0)] := hl
  refine lv_iload_n hx hb dJ2_add_2_0 rfl (lv_at hl 3 rfl) ?_
  refine lv_aload_n hx hb dJ2_add_2_1 rfl (lv_at hl 2 rfl) ?_
  refine va_tlen hx hb hT hS (v := 0) (by decide) dJ2_add_2_2 ?_
  refine lv_icmp_ne (tgt := 11) hx hb dJ2_add_2_3 (by decide) (fun h9 => absurd h9 (by decide)) (fun _ => ?_)
  refine lv_aload_n hx hb dJ2_add_2_6 rfl (lv_at hl 0 rfl) ?_
  refine va_callr (va_runV (C := RJ2) (As := []) (rest := []) ⟨hx, hb, hml, hown, hts⟩ (tJ2_grow l D a v dd cA kd s.heap.size mcn fs hne) (cwV 0 hts (lw_V q879 q881 qs15 q67 q882) rfl rfl rfl (by decide +kernel) ⟨Nat.le_of_ble_eq_true rfl, Nat.le_of_ble_eq_true rfl⟩) ⟨l0B_blind, va_recv hK hP (ci := 9) (q0 := 0) rfl rfl, fun U hU hW => ⟨rfl, by rw [hU], by rw [hU]; exact hP, va_K.moved hW.alike hK, cNw.warm hW hN, by rw [hU]; exact (zL.moved hW.alike (zL.kept ⟨hZ, hT⟩ hS.2.1)).narrow (fun q h => h), va_AO.moved hW.alike hAO⟩⟩ rfl rfl hl.1 rfl (lv_room (Nat.le_of_ble_eq_true rfl)) dJ2_add_2_7 ⟨Nat.le_of_ble_eq_true rfl, Nat.le_of_ble_eq_true rfl⟩) hS (fun q _ h => h) (fun q h => h) (fun _ d t H locs ht hvm _ hB _ _ hS => ?_)
  obtain ⟨hd, hP⟩ := hB
  rw [ht] at hP
  have ha0 : a < s.heap.size := hP0.lt
  have hv0 : v < s.heap.size := hP1.lt
  have hD : va_D (lA a v s.heap.size s.heap.size) (l1C a v d cA kd mcn 0 fs (fun _ => none)) := vd_3 hne (by omega) (by omega) (Or.inl rfl) (Or.inr (Or.inl rfl)) (Or.inr (Or.inr (Or.inr hd)))
  have hP : va_P D vcl [(a, .inr (9, [.int mcn, .ref d, .int 0])), (v, .inr (2 + kd, fs)), (d, .inl (cA, 10, .inr (.inr (.inr (.inr (fun _ => none))))))] H := hP
  have hD : va_D (lA a v s.heap.size s.heap.size) [(a, .inr (9, [.int mcn, .ref d, .int 0])), (v, .inr (2 + kd, fs)), (d, .inl (cA, 10, .inr (.inr (.inr (.inr (fun _ => none))))))] := hD
  refine lv_astore_n (lv' := [(2, .ref d), (0, .ref a), (1, .ref v), (3, .int 0)]) hx hb dJ2_add_2_10 rfl hl (by decide) rfl (fun ls hl => ?_)
  refine lv_aload_n hx hb dJ2_add_2_11 rfl (lv_at hl 0 rfl) ?_
  refine lv_iload_n hx hb dJ2_add_2_12 rfl (lv_at hl 3 rfl) ?_
  refine lv_aload_n hx hb dJ2_add_2_13 rfl (lv_at hl 2 rfl) ?_
  refine va_astqM hx hb hK hP hD hS 2 0 rfl rfl (way_anyO hK hN hkd (hP 1 _ rfl)) (vin_of (by decide)) dJ2_add_2_14 (fun H locs hP hD hS => ?_)
  have hP : va_P D vcl [(a, .inr (9, [.int mcn, .ref d, .int 0])), (v, .inr (2 + kd, fs)), (d, .inl (cA, 10, .inr (.inr (.inr (.inr (va_up (fun _ => none) 0 (some v)))))))] H := hP
  have hD : va_D (lA a v s.heap.size s.heap.size) [(a, .inr (9, [.int mcn, .ref d, .int 0])), (v, .inr (2 + kd, fs)), (d, .inl (cA, 10, .inr (.inr (.inr (.inr (va_up (fun _ => none) 0 (some v)))))))] := hD
  refine lv_aload_n hx hb dJ2_add_2_15 rfl (lv_at hl 1 rfl) ?_
  refine lv_iload_n hx hb dJ2_add_2_16 rfl (lv_at hl 3 rfl) ?_
  refine lv_iconst (v := 1) hx hb dJ2_add_2_17 (by decide) ?_
  refine lv_iadd hx hb dJ2_add_2_18 ?_
  refine va_put (D := D) (ci := 9) (v := .int (0 + 1)) (ty := tyJ2 2) (C := RJ2) (T := TJ2) (N := 3) hx hb hts in_J2 tyJ2 tyJ2_ok nmJ2 hown hK hP hD hS 0 rfl rfl 2 (by decide) (hts _ q124) (fun _ h9 => h9) rfl (by decide +kernel) (rfl) (rfl) (Nat.le_of_ble_eq_true rfl) dJ2_add_2_19 (fun H locs hP hD hS => ?_)
  have hP : va_P D vcl [(a, .inr (9, [.int mcn, .ref d, .int (0 + 1)])), (v, .inr (2 + kd, fs)), (d, .inl (cA, 10, .inr (.inr (.inr (.inr (va_up (fun _ => none) 0 (some v)))))))] H := hP
  have hD : va_D (lA a v s.heap.size s.heap.size) [(a, .inr (9, [.int mcn, .ref d, .int (0 + 1)])), (v, .inr (2 + kd, fs)), (d, .inl (cA, 10, .inr (.inr (.inr (.inr (va_up (fun _ => none) 0 (some v)))))))] := hD
  exact W.vret hx hb hr (fun t ht hW => ⟨⟨d, rfl, trivial, hd, by rw [ht]; exact hP⟩, hS.F ht⟩) hS.2.2 dJ2_add_2_22 hlk
set_option maxHeartbeats 2000000 in
theorem tJ2_add (l : Launch) (D : va_G) (a v d cA kd sz : Nat) (mcn : Int32) (n : Nat) (fs : List Value) (f : Nat → Option Nat) (h1 : a ≠ v) (h2 : a ≠ d) (h3 : v ≠ d) (hkd : kd < 6) (hn : n < 10) : Met l yJ2_add (ws_ yJ2_add cJ2_add 2 (some .boolean)) { frames := 1, cells := 0, slots := 0, locals := 30 } (va_Pc [.ref a, .ref v] (l1B D a v d cA kd sz mcn (nI n) fs f)) (va_Qi (fun r (_ : Unit) => r = 1) (fun _ t => va_P D vcl (l1C a v d cA kd (mcn + 1) (nI (n + 1)) fs (va_up f n (some v))) t.heap) (lA a v d sz)) 0 0 (lA a v d sz) := by
  refine g_entry (by decide) (Nat.le_of_ble_eq_true rfl) ?_
  intro p e s m args below meth c ls hx hb hml hown hts hlk hr hB hl _
  obtain ⟨hsz, hP, hK, hN⟩ := id hB
  subst hsz
  have hown : s.vm.findClass RJ2 = some m.cls := hown
  have hS : va_S (lA a v d s.heap.size) s.heap s.heap [] := va_S.rf
  have hD : va_D (lA a v d s.heap.size) (l1C a v d cA kd mcn (nI n) fs f) := vd_3 h1 h2 h3 (Or.inl rfl) (Or.inr (Or.inl rfl)) (Or.inr (Or.inr (Or.inl rfl)))
  have hP : va_P D vcl [(a, .inr (9, [.int mcn, .ref d, .int (nI n)])), (v, .inr (2 + kd, fs)), (d, .inl (cA, 10, .inr (.inr (.inr (.inr f)))))] s.heap := hP
  have hl : lv_has ls 2 [(0, .ref a), (1, .ref v)] := hl
  refine lv_aload_n hx hb dJ2_add_0 rfl (lv_at hl 0 rfl) ?_
  refine lv_dup hx hb dJ2_add_1 rfl ?_
  refine va_get hx hb hts in_J2 hown hK hP 0 rfl rfl 0 (by decide) (hts _ q126) (u_same (hts _ q127)) rfl dJ2_add_2 ?_
  refine lv_iconst (v := 1) hx hb dJ2_add_5 (by decide) ?_
  refine lv_iadd hx hb dJ2_add_6 ?_
  refine va_put (D := D) (ci := 9) (v := .int (mcn + 1)) (ty := tyJ2 0) (C := RJ2) (T := TJ2) (N := 3) hx hb hts in_J2 tyJ2 tyJ2_ok nmJ2 hown hK hP hD hS 0 rfl rfl 0 (by decide) (hts _ q126) (u_same (hts _ q127)) rfl (by decide +kernel) (rfl) (rfl) (Nat.le_of_ble_eq_true rfl) dJ2_add_7 (fun H locs hP hD hS => ?_)
  have hP : va_P D vcl [(a, .inr (9, [.int (mcn + 1), .ref d, .int (nI n)])), (v, .inr (2 + kd, fs)), (d, .inl (cA, 10, .inr (.inr (.inr (.inr f)))))] H := hP
  have hD : va_D (lA a v d s.heap.size) [(a, .inr (9, [.int (mcn + 1), .ref d, .int (nI n)])), (v, .inr (2 + kd, fs)), (d, .inl (cA, 10, .inr (.inr (.inr (.inr f)))))] := hD
  refine lv_aload_n hx hb dJ2_add_10 rfl (lv_at hl 0 rfl) ?_
  refine lv_aload_n hx hb dJ2_add_11 rfl (lv_at hl 1 rfl) ?_
  refine lv_aload_n hx hb dJ2_add_12 rfl (lv_at hl 0 rfl) ?_
  refine va_get hx hb hts in_J2 hown hK hP 0 rfl rfl 1 (by decide) (hts _ q123) (fun _ h9 => h9) rfl dJ2_add_13 ?_
  refine lv_aload_n hx hb dJ2_add_16 rfl (lv_at hl 0 rfl) ?_
  refine va_get hx hb hts in_J2 hown hK hP 0 rfl rfl 2 (by decide) (hts _ q124) (fun _ h9 => h9) rfl dJ2_add_17 ?_
  refine va_callv (va_runV (C := RJ2) (As := [.ref v, .ref d, .int (nI n)]) (rest := []) ⟨hx, hb, hml, hown, hts⟩ (tJ2_add_2 l D a v d cA kd H.size (mcn + 1) n fs f h1 h2 h3 hkd hn) (cwV 3 hts (lw_V q875 q877 qs14 q67 q878) rfl rfl rfl (by decide +kernel) ⟨Nat.le_of_ble_eq_true rfl, Nat.le_of_ble_eq_true rfl⟩) ⟨l1B_blind, va_recv hK hP (ci := 9) (q0 := 0) rfl rfl, fun U hU hW => ⟨rfl, by rw [hU], by rw [hU]; exact hP, va_K.moved hW.alike hK, cNw.warm hW hN⟩⟩ rfl rfl hl.1 rfl (lv_room (Nat.le_of_ble_eq_true rfl)) dJ2_add_20 ⟨Nat.le_of_ble_eq_true rfl, Nat.le_of_ble_eq_true rfl⟩) hS (fun q _ h => by rcases h with h | h | h | h; exact Or.inl h; exact Or.inr (Or.inl h); exact Or.inr (Or.inr (Or.inl h)); exact Or.inr (Or.inr (Or.inr (Nat.le_trans hS.1 h)))) (fun q h => by rcases h with h | h | h | h; exact Or.inl h; exact Or.inr (Or.inl h); exact Or.inr (Or.inr (Or.inl h)); exact Or.inr (Or.inr (Or.inr (Nat.le_trans hS.1 h)))) (fun _ t H1 locs1 ht hvm _ hB _ _ hS => ?_)
  refine lv_iconst (v := 1) hx hb dJ2_add_23 (by decide) ?_
  exact W.zret hx hb hr rfl (fun t2 ht2 hW => ⟨⟨1, (), rfl, rfl, by show va_P _ _ _ t2.heap; rw [ht2, ← ht]; exact hB⟩, hS.F ht2⟩) hS.2.2 dJ2_add_24 hlk
set_option maxHeartbeats 2000000 in
theorem tJ2_add_0 (l : Launch) (D : va_G) (a v dd cA kd sz : Nat) (mcn : Int32) (fs : List Value) (hne : a ≠ v) (hkd : kd < 6) : Met l yJ2_add (ws_ yJ2_add cJ2_add 2 (some .boolean)) { frames := 4, cells := 1, slots := 10, locals := 120 } (va_Pc [.ref a, .ref v] (l0B D a v dd cA kd sz mcn fs)) (va_Qi (fun r (_ : Nat) => r = 1) (fun d t => sz ≤ d ∧ va_P D vcl (l1C a v d cA kd (mcn + 1) 1 fs (va_up (fun _ => none) 0 (some v))) t.heap) (lA a v sz sz)) 1 10 (lA a v sz sz) := by
  refine g_entry (by decide) (Nat.le_of_ble_eq_true rfl) ?_
  intro p e s m args below meth c ls hx hb hml hown hts hlk hr hB hl _
  obtain ⟨hsz, hP, hK, hN, ⟨hZ, hT⟩, hAO⟩ := id hB
  subst hsz
  have hown : s.vm.findClass RJ2 = some m.cls := hown
  have hS : va_S (lA a v s.heap.size s.heap.size) s.heap s.heap [] := va_S.rf
  have hAg : ∀ q, s.heap.size ≤ q → lA a v s.heap.size s.heap.size q := fun q h => Or.inr (Or.inr (Or.inr h))
  have hD : va_D (lA a v s.heap.size s.heap.size) (l0C a v dd kd mcn fs) := vd_2 hne (Or.inl rfl) (Or.inr (Or.inl rfl))
  have hP : va_P D vcl [(a, .inr (9, [.int mcn, .ref dd, .int 0])), (v, .inr (2 + kd, fs))] s.heap := hP
  have hl : lv_has ls 2 [(0, .ref a), (1, .ref v)] := hl
  refine lv_aload_n hx hb dJ2_add_0 rfl (lv_at hl 0 rfl) ?_
  refine lv_dup hx hb dJ2_add_1 rfl ?_
  refine va_get hx hb hts in_J2 hown hK hP 0 rfl rfl 0 (by decide) (hts _ q126) (u_same (hts _ q127)) rfl dJ2_add_2 ?_
  refine lv_iconst (v := 1) hx hb dJ2_add_5 (by decide) ?_
  refine lv_iadd hx hb dJ2_add_6 ?_
  refine va_put (D := D) (ci := 9) (v := .int (mcn + 1)) (ty := tyJ2 0) (C := RJ2) (T := TJ2) (N := 3) hx hb hts in_J2 tyJ2 tyJ2_ok nmJ2 hown hK hP hD hS 0 rfl rfl 0 (by decide) (hts _ q126) (u_same (hts _ q127)) rfl (by decide +kernel) (rfl) (rfl) (Nat.le_of_ble_eq_true rfl) dJ2_add_7 (fun H locs hP hD hS => ?_)
  have hP : va_P D vcl [(a, .inr (9, [.int (mcn + 1), .ref dd, .int 0])), (v, .inr (2 + kd, fs))] H := hP
  have hD : va_D (lA a v s.heap.size s.heap.size) [(a, .inr (9, [.int (mcn + 1), .ref dd, .int 0])), (v, .inr (2 + kd, fs))] := hD
  refine lv_aload_n hx hb dJ2_add_10 rfl (lv_at hl 0 rfl) ?_
  refine lv_aload_n hx hb dJ2_add_11 rfl (lv_at hl 1 rfl) ?_
  refine lv_aload_n hx hb dJ2_add_12 rfl (lv_at hl 0 rfl) ?_
  refine va_get hx hb hts in_J2 hown hK hP 0 rfl rfl 1 (by decide) (hts _ q123) (fun _ h9 => h9) rfl dJ2_add_13 ?_
  refine lv_aload_n hx hb dJ2_add_16 rfl (lv_at hl 0 rfl) ?_
  refine va_get hx hb hts in_J2 hown hK hP 0 rfl rfl 2 (by decide) (hts _ q124) (fun _ h9 => h9) rfl dJ2_add_17 ?_
  have hz0 := hS.1
  refine va_callv (va_runV (C := RJ2) (As := [.ref v, .ref dd, .int 0]) (rest := []) ⟨hx, hb, hml, hown, hts⟩ (tJ2_add_2_0 l D a v dd cA kd H.size (mcn + 1) fs hne hkd) (cwV 3 hts (lw_V q875 q877 qs14 q67 q878) rfl rfl rfl (by decide +kernel) ⟨Nat.le_of_ble_eq_true rfl, Nat.le_of_ble_eq_true rfl⟩) ⟨l0B_blind, va_recv hK hP (ci := 9) (q0 := 0) rfl rfl, fun U hU hW => ⟨rfl, by rw [hU], by rw [hU]; exact hP, va_K.moved hW.alike hK, cNw.warm hW hN, by rw [hU]; exact (zL.moved hW.alike (zL.kept ⟨hZ, hT⟩ hS.2.1)).narrow (fun q h => by rcases h with h | h | h | h; exact Or.inl h; exact Or.inr (Or.inl h); exact Or.inr (Or.inr (Or.inr (Nat.le_trans hS.1 (Nat.le_of_eq h.symm)))); exact Or.inr (Or.inr (Or.inr (Nat.le_trans hS.1 h)))), va_AO.moved hW.alike hAO⟩⟩ rfl rfl hl.1 rfl (lv_room (Nat.le_of_ble_eq_true rfl)) dJ2_add_20 ⟨Nat.le_of_ble_eq_true rfl, Nat.le_of_ble_eq_true rfl⟩) hS (fun q _ h => by rcases h with h | h | h | h; exact Or.inl h; exact Or.inr (Or.inl h); exact Or.inr (Or.inr (Or.inr (Nat.le_trans hS.1 (Nat.le_of_eq h.symm)))); exact Or.inr (Or.inr (Or.inr (Nat.le_trans hS.1 h)))) (fun q h => by rcases h with h | h | h | h; exact Or.inl h; exact Or.inr (Or.inl h); exact Or.inr (Or.inr (Or.inr (Nat.le_trans hS.1 (Nat.le_of_eq h.symm)))); exact Or.inr (Or.inr (Or.inr (Nat.le_trans hS.1 h)))) (fun d t H1 locs1 ht hvm _ hB _ _ hS => ?_)
  refine lv_iconst (v := 1) hx hb dJ2_add_23 (by decide) ?_
  exact W.zret hx hb hr rfl (fun t2 ht2 hW => ⟨⟨1, d, rfl, rfl, Nat.le_trans hz0 hB.1, by rw [ht2, ← ht]; exact hB.2⟩, hS.F ht2⟩) hS.2.2 dJ2_add_24 hlk
