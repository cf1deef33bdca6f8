/-! ===== rows over the class's world: copies, fills, sheets ===== -/
set_option maxRecDepth 100000
theorem gw_P.setL {D : va_G} {cl : List vw_C} {A : Nat → Prop} {ad : Nat → Nat} {E : Nat → Option va_E} {H H1 : Heap} {k : Nat} {x0 x : va_E} (h : gw_P D cl ad E H) (hD : gw_D A ad E) (he : E k = some x0) (h1 : va_at D cl (ad k, x) H1) (oq : ∀ q : Nat, q < H.size → q ≠ ad k → H1[q]? = H[q]?) : gw_P D cl ad (gw_set E k x) H1 := by
  intro j y hj
  unfold gw_set at hj
  by_cases e : j = k
  · subst e
    rw [if_pos rfl] at hj
    cases hj
    exact h1
  · rw [if_neg e] at hj
    exact (h j y hj).kept (oq _ (h j y hj).lt (fun z => e (hD.1 j k (by rw [hj]; exact fun z => by cases z) (by rw [he]; exact fun z => by cases z) z)))
section CPY
variable {p : Program} {l : Launch} {e : Env} {R : Room} {s : State} {m : MethodId} {args : Array Value} {below : List Frame} {meth : Method} {c : Code} {H : Heap} {locs : List Loc} {cells slots : Nat} {Q : State → Prop}
variable {cc : ByteArray} {pc : Nat} {ls : Array Slot} {rest : List Value} {D : va_G} {cl : List vw_C} {A : Nat → Prop} {ad : Nat → Nat} {E : Nat → Option va_E} {tys : List (ClassId × FieldType)} {H0 : Heap}
theorem gw_copyi (hexec : p.tables.exec = Jvm.exec) (hb : c.code = cc) (hml : c.maxLocals = ls.size) {own : String} {index : Nat} (hown : s.vm.findClass own = some m.cls) (hlink : (Cond.methodLink own index arraycopyName).before args s = true) (hnat : (Cond.native arraycopyName).before args s = true) (hstat : (Cond.static arraycopyName).before args s = true) (hini : (Cond.initialized "java/lang/System").before args s = true)
    (hK : va_K D cl tys s) (hP : gw_P D cl ad E H) (hD : gw_D A ad E) (hS : va_S A H0 H locs) {q0 q1 : Nat} (t0 t1 : Nat) {c0 c1 : ClassId} {n0 n1 : Nat} {f g : Nat → Int32} {ty : FieldType} (ha0 : E q0 = some (.inl (c0, n0, .inl f))) (ha1 : E q1 = some (.inl (c1, n1, .inl g))) (ht0 : tys[t0]? = some (c0, ty)) (ht1 : tys[t1]? = some (c1, ty)) (hprim : refKind ty = false)
    {sp dp n : Int32} (h1 : ¬ sp < 0) (h2 : ¬ dp < 0) (h3 : ¬ n < 0) (h4 : sp.toNatClampNeg + n.toNatClampNeg ≤ n0) (h5 : dp.toNatClampNeg + n.toNatClampNeg ≤ n1) (hfit : ∀ i, i < n.toNatClampNeg → fits ty (.int (f (sp.toNatClampNeg + i))) = true)
    (hframes : 1 ≤ R.frames) (hlocals : (rest.map fun v => v.category).sum + (nativeFrameWords "java/lang/System" "arraycopy" 5 + 11) ≤ R.locals) (hdg : decode cc pc = .ok (.invokestatic index, 3))
    (kk : ∀ (H1 : Heap) (locs1 : List Loc), gw_P D cl ad (gw_set E q1 (.inl (c1, n1, .inl (va_cpy f g sp.toNatClampNeg dp.toNatClampNeg n.toNatClampNeg)))) H1 → gw_D A ad (gw_set E q1 (.inl (c1, n1, .inl (va_cpy f g sp.toNatClampNeg dp.toNatClampNeg n.toNatClampNeg)))) → va_S A H0 H1 locs1 → H1.size = H.size → W p l e R s m args below meth c H1 locs1 cells slots Q (F0 m (pc + 3) ls rest)) : W p l e R s m args below meth c H locs cells slots Q (F0 m pc ls (.int n :: .int dp :: .ref (ad q1) :: .int sp :: .ref (ad q0) :: rest)) := by
  have nn : ∀ z : Int32, ¬ z < 0 → z.toInt = (z.toNatClampNeg : Int) := by
    intro z hz
    have hz0 : (0 : Int) ≤ z.toInt := by
      have := Int32.not_lt.mp hz
      simpa using Int32.le_iff_toInt_le.mp this
    show z.toInt = ((z.toInt.toNat : Nat) : Int)
    omega
  intro T hT X
  have hc0 : H[ad q0]? = some (vp_cell c0 (n0, .inl f)) := hP q0 _ ha0
  have hc1 : H[ad q1]? = some (vp_cell c1 (n1, .inl g)) := hP q1 _ ha1
  have hA1 : A (ad q1) := hD.2 q1 (by rw [ha1]; exact fun z => by cases z)
  obtain ⟨-, k0, hk0, cm0, hkk0⟩ := (hK.2 t0 _ ht0).1 n0 (fun j => .int (f j))
  obtain ⟨-, k1, hk1, cm1, hkk1⟩ := (hK.2 t1 _ ht1).1 n1 (fun j => .int (g j))
  obtain ⟨vm', X', step⟩ := X.arraycopy hexec hown hlink hnat hstat hini (src := ad q0) (dst := ad q1) (cs := vp_cell c0 (n0, .inl f)) (cd := vp_cell c1 (n1, .inl g)) (srcPos := sp) (destPos := dp) (n := n) (by rw [hT]; exact hc0) (by rw [hT]; exact hc1)
    (fun _ h => by cases h) (fun _ h => by cases h) (fun h => by cases h) (fun h => by cases h) hk0 hk1 hkk0 hkk1 (by simp [hprim]) h1 h2 h3
    (by rw [nn sp h1, nn n h3]; show ¬ _ > ((arrV c0 n0 (fun j => .int (f j))).slots.size : Int); rw [arrV_size]; omega)
    (by rw [nn dp h2, nn n h3]; show ¬ _ > ((arrV c1 n1 (fun j => .int (g j))).slots.size : Int); rw [arrV_size]; omega)
    (fun vm₁ _ i hi => by
      have e : (vp_cell c0 (n0, .inl f)).slots.getD (sp.toNatClampNeg + i) .null = .int (f (sp.toNatClampNeg + i)) := by
        show (arrV c0 n0 (fun j => .int (f j))).slots.getD _ _ = _
        rw [Array.getD_eq_getD_getElem?, arrV_read _ _ (by omega)]
        rfl
      refine ⟨?_, ?_⟩
      · rw [e]
        exact hfit i hi
      · rw [e]
        exact trivial)
    (g := F0 m pc ls (.int n :: .int dp :: .ref (ad q1) :: .int sp :: .ref (ad q0) :: rest)) rfl (by rw [hml]) (rest := rest) rfl (by rw [hb]; exact hdg) hframes (by show 2 * 0 + _ + _ ≤ _; omega)
  have e1 : copied (vp_cell c0 (n0, .inl f)) (vp_cell c1 (n1, .inl g)) sp dp n = vp_cell c1 (n1, .inl (va_cpy f g sp.toNatClampNeg dp.toNatClampNeg n.toNatClampNeg)) := va_copied (fun z => .int z) c0 c1 f g h4
  rw [e1] at X' step
  have hl : ad q1 < H.size := (Array.getElem?_eq_some_iff.mp hc1).1
  have hheap : ((T.setVm vm').setCell (ad q1) (vp_cell c1 (n1, .inl (va_cpy f g sp.toNatClampNeg dp.toNatClampNeg n.toNatClampNeg)))).heap = H.setIfInBounds (ad q1) (vp_cell c1 (n1, .inl (va_cpy f g sp.toNatClampNeg dp.toNatClampNeg n.toNatClampNeg))) := by rw [← hT]; rfl
  have oq : ∀ q : Nat, q ≠ ad q1 → (H.setIfInBounds (ad q1) (vp_cell c1 (n1, .inl (va_cpy f g sp.toNatClampNeg dp.toNatClampNeg n.toNatClampNeg))))[q]? = H[q]? := fun q hq => by simp [Array.getElem?_setIfInBounds, Ne.symm hq]
  obtain ⟨t, a1, b1⟩ := kk _ _ (hP.set hD ha1 (show (H.setIfInBounds (ad q1) _)[ad q1]? = some _ by simp [Array.getElem?_setIfInBounds, hl]) oq) (hD.set ha1) ⟨by simp; exact hS.1, fun q g1 g2 => by
      rw [oq q (fun e => g2 (by rw [e]; exact hA1))]
      exact hS.2.1 q g1 g2, fun q hq => by
      rcases List.mem_append.mp hq with h | h
      · exact hS.2.2 q h
      · obtain ⟨z, -, hz⟩ := List.mem_map.mp h
        rw [← hz]
        exact hA1⟩ (by simp) _ hheap X'
  exact ⟨t, step t a1, b1⟩
end CPY
/-- Arrays.fill of ints -/
def flF (f : Nat → Int32) (i : Nat) (v : Int32) : Nat → Int32 := fun j => if j < i then v else f j
theorem flF_upd {f : Nat → Int32} {i : Nat} {v : Int32} : upd (flF f i v) i v = flF f (i + 1) v := by
  funext j
  unfold upd flF
  by_cases h : j = i
  · subst h; simp
  · by_cases h2 : j < i
    · simp [h2, show j < i + 1 by omega]
    · simp [h2, h, show ¬ j < i + 1 by omega]
set_option maxHeartbeats 4000000 in
theorem tJ11_fill (l : Launch) (D : va_G) (a sz : Nat) (cA : ClassId) (n : Nat) (hn : n < 2 ^ 31) (f : Nat → Int32) (v : Int32) : Met l yJ11_fill (ws_ yJ11_fill cJ11_fill 4 none) { frames := 0, cells := 0, slots := 0, locals := 0 } (va_Pc [.ref a, .int v] (fun V => (V.heap.size = sz ∧ va_P D vcl [(a, .inl (cA, n, .inl f))] V.heap) ∧ va_K D vcl [(cA, .int)] V)) (va_Qv (fun _ : Unit => True) (fun _ t => va_P D vcl [(a, .inl (cA, n, .inl (flF f n v)))] t.heap) (fun q => q = a)) 0 0 (fun q => q = a) := by
  refine g_entry (by decide) (Nat.le_of_ble_eq_true rfl) ?_
  intro p e s m args below meth c ls hx hb hml hown hts hlk hr hB hl _
  obtain ⟨⟨hsz, hP⟩, hK⟩ := hB
  have hl : lv_has ls 4 [(0, .ref a), (1, .int v)] := hl
  have hD : va_D (fun q => q = a) [(a, .inl (cA, n, .inl f))] := ⟨fun i j p q hp hq _ => by
    match i, j, hp, hq with
    | 0, 0, _, _ => rfl, fun k q hq => by
    match k, hq with
    | 0, hq => cases hq; rfl⟩
  refine lv_iconst (v := 0) hx hb dJ11_fill_0 (by decide) ?_
  refine lv_istore_n (lv' := [(2, .int 0), (0, .ref a), (1, .int v)]) hx hb dJ11_fill_1 rfl hl (by decide) rfl (fun ls hl => ?_)
  refine lv_aload_n hx hb dJ11_fill_2 rfl (lv_at hl 1 rfl) ?_
  refine va_alen (v := nI n) hx hb hK hP 0 0 rfl rfl rfl dJ11_fill_3 ?_
  refine lv_istore_n (lv' := [(3, .int (nI n)), (2, .int 0), (0, .ref a), (1, .int v)]) hx hb dJ11_fill_4 rfl hl (by decide) rfl (fun ls hl => ?_)
  have loop : ∀ (k i : Nat) (H : Heap) (locs : List Loc), i + k = n → va_P D vcl [(a, .inl (cA, n, .inl (flF f i v)))] H → va_D (fun q => q = a) [(a, .inl (cA, n, .inl (flF f i v)))] → va_S (fun q => q = a) s.heap H locs → ∀ ls : Array Slot, lv_has ls 4 [(0, .ref a), (1, .int v), (2, .int (nI i)), (3, .int (nI n))] → W p l e { frames := 0, cells := 0, slots := 0, locals := 0 } s m args below meth c H locs 0 0 (MQ below (va_Qv (fun _ : Unit => True) (fun _ t => va_P D vcl [(a, .inl (cA, n, .inl (flF f n v)))] t.heap) (fun q => q = a)) args s 0 0 (fun q => q = a)) (F0 m 5 ls []) := by
    intro k
    induction k with
    | zero =>
      intro i H locs hi hP hD hS ls hl
      have hi : i = n := by omega
      subst hi
      refine lv_iload_n hx hb dJ11_fill_5 rfl (lv_at hl 2 rfl) ?_
      refine lv_iload_n hx hb dJ11_fill_6 rfl (lv_at hl 3 rfl) ?_
      refine lv_icmp_ge (tgt := 20) hx hb dJ11_fill_7 (by decide) (fun _ => ?_) (fun c_ => absurd (Int32.le_refl _) c_)
      exact W.vret hx hb hr (fun t ht hW => ⟨⟨(), rfl, trivial, by show va_P _ _ _ t.heap; rw [ht]; exact hP⟩, hS.F ht⟩) hS.2.2 dJ11_fill_20 hlk
    | succ k ih =>
      intro i H locs hi hP hD hS ls hl
      refine lv_iload_n hx hb dJ11_fill_5 rfl (lv_at hl 2 rfl) ?_
      refine lv_iload_n hx hb dJ11_fill_6 rfl (lv_at hl 3 rfl) ?_
      refine lv_icmp_ge (tgt := 20) hx hb dJ11_fill_7 (by decide) (fun c_ => absurd c_ (nI_ge (by omega) hn)) (fun _ => ?_)
      refine lv_aload_n hx hb dJ11_fill_10 rfl (lv_at hl 0 rfl) ?_
      refine lv_iload_n hx hb dJ11_fill_11 rfl (lv_at hl 2 rfl) ?_
      refine lv_iload_n hx hb dJ11_fill_12 rfl (lv_at hl 1 rfl) ?_
      refine va_iast hx hb hK hP hD hS 0 0 rfl rfl (vp_in_nI (by omega) hn) dJ11_fill_13 (fun H locs hP hD hS => ?_)
      rw [nI_clamp (by omega), flF_upd] at hP hD
      refine lv_iinc (v := nI (i + 1)) (lv' := [(2, .int (nI (i + 1))), (0, .ref a), (1, .int v), (3, .int (nI n))]) hx hb dJ11_fill_14 hl (k := 2) rfl (nI_1 i) (by decide) rfl (fun ls hl => ?_)
      refine lv_goto (tgt := 5) hx hb dJ11_fill_17 (by decide) ?_
      exact ih (i + 1) H locs (by omega) hP hD hS ls (lv_sub hl [1, 2, 0, 3] rfl)
  have e0 : flF f 0 v = f := by funext j; simp [flF]
  exact loop n 0 s.heap [] (by omega) (by rw [e0]; exact hP) (by rw [e0]; exact hD) va_S.rf ls (lv_sub hl [2, 3, 1, 0] rfl)
theorem cArr_sc {Kd : tK} {j : Nat} (h : j < 4) : cArr Kd (44 + j) = some (0, 40) := by
  have : j = 0 ∨ j = 1 ∨ j = 2 ∨ j = 3 := by omega
  rcases this with h | h | h | h <;> subst h <;> rfl
theorem cE_sheet {G ad : Nat → Nat} {F : tF} {Ar : tA} {Kd : tK} {U : tU} {j : Nat} (h : j < 4) : cE G ad F Ar Kd U (40 + j) = some (.inr (8, [.int (F (40 + 2 * j)), .int (F (41 + 2 * j)), .ref (ad (44 + j))])) := by
  have : j = 0 ∨ j = 1 ∨ j = 2 ∨ j = 3 := by omega
  rcases this with h | h | h | h <;> subst h <;> rfl
theorem cE_putS {G ad : Nat → Nat} {F : tF} {Ar : tA} {Kd : tK} {U : tU} {j : Nat} {v : Int32} (h : j < 4) : gw_set (cE G ad F Ar Kd U) (40 + j) (.inr (8, [.int v, .int (F (41 + 2 * j)), .ref (ad (44 + j))])) = cE G ad (upd F (40 + 2 * j) v) Ar Kd U := by
  funext q
  by_cases e : q = 40 + j
  · subst e
    rw [cE_sheet h]
    simp [gw_set, upd, show ¬ 41 + 2 * j = 40 + 2 * j by omega]
  · simp only [gw_set, if_neg e]
    exact (cE_upd (fun _ => by omega) (fun _ => by omega) (fun _ _ => by omega) (fun _ _ => by omega)).symm
theorem cE_putZ {G ad : Nat → Nat} {F : tF} {Ar : tA} {Kd : tK} {U : tU} {j : Nat} {v : Int32} (h : j < 4) : gw_set (cE G ad F Ar Kd U) (40 + j) (.inr (8, [.int (F (40 + 2 * j)), .int v, .ref (ad (44 + j))])) = cE G ad (upd F (41 + 2 * j) v) Ar Kd U := by
  funext q
  by_cases e : q = 40 + j
  · subst e
    rw [cE_sheet h]
    simp [gw_set, upd, show ¬ 40 + 2 * j = 41 + 2 * j by omega]
  · simp only [gw_set, if_neg e]
    exact (cE_upd (fun _ => by omega) (fun _ => by omega) (fun _ _ => by omega) (fun _ _ => by omega)).symm
section CR4
variable {p : Program} {l : Launch} {e : Env} {R : Room} {s : State} {m : MethodId} {args : Array Value} {below : List Frame} {meth : Method} {c : Code} {H : Heap} {locs : List Loc} {cells slots : Nat} {Q : State → Prop}
variable {cc : ByteArray} {nL pc : Nat} {ls : Array Slot} {rest : List Value} {D : va_G} {A : Nat → Prop} {G ad : Nat → Nat} {H0 : Heap} {Kd : tK} {U : tU} {T : tT} {zz : Int32} {F : tF} {Ar : tA}
theorem cP.updF (P : cP D A G ad H0 Kd U T zz F Ar H locs) {k : Nat} {v : Int32} (h32 : k ≠ 32) (h28 : k ≠ 28) : cWf (upd F k v) Kd ∧ cTx G ad U T (upd F k v) ∧ upd F k v 32 = zz := by
  have e32 : upd F k v 32 = F 32 := by simp [upd]; omega
  have e28 : upd F k v 28 = F 28 := by simp [upd]; omega
  exact ⟨by unfold cWf; rw [e32]; exact P.2.2.2.1, by unfold cTx; rw [e28]; exact P.2.2.2.2.1, by rw [e32]; exact P.2.2.2.2.2⟩
/-- sheets[i] -/
theorem c_saald (X : cCx p s m args meth c cc nL RX0 D G) (P : cP D A G ad H0 Kd U T zz F Ar H locs) {i : Int32} (hin : vp_in i 4) (hdg : decode cc pc = .ok (.aaload, 1))
    (kk : i.toNatClampNeg < 4 → W p l e R s m args below meth c H locs cells slots Q (F0 m (pc + 1) ls (.ref (ad (40 + i.toNatClampNeg)) :: rest))) : W p l e R s m args below meth c H locs cells slots Q (F0 m pc ls (.int i :: .ref (ad 32) :: rest)) := by
  obtain ⟨hx, hb, hml, hown, hts, hK, hlk, hN⟩ := X
  have hlt : i.toNatClampNeg < 4 := Nat.not_le.mp fun q => hin (Or.inr q)
  refine gw_aald hx hb hK P.1 4 (ty := .object "GateRoad$Sheet") (f := fun j => if j < 4 then some (ad (40 + j)) else none) (cA := G 4) (n := 4) rfl rfl rfl hin hdg ?_
  show W p l e R s m args below meth c H locs cells slots Q (F0 m (pc + 1) ls (va_rf (if i.toNatClampNeg < 4 then some (ad (40 + i.toNatClampNeg)) else none) :: rest))
  rw [if_pos hlt]
  exact kk hlt
theorem c_sg_sort (X : cCx p s m args meth c cc nL RX0 D G) (P : cP D A G ad H0 Kd U T zz F Ar H locs) {j : Nat} (hj : j < 4) (hdg : decode cc pc = .ok (.getfield 222, 3)) (kk : W p l e R s m args below meth c H locs cells slots Q (F0 m (pc + 3) ls (.int (F (40 + 2 * j)) :: rest))) : W p l e R s m args below meth c H locs cells slots Q (F0 m pc ls (.ref (ad (40 + j)) :: rest)) := by
  obtain ⟨hx, hb, hml, hown, hts, hK, hlk, hN⟩ := X
  exact gw_get hx hb hts in_X1 hown hK P.1 (cE_sheet hj) rfl 0 (by decide) (hts _ q148) (fun _ h => h) rfl hdg kk
theorem c_sg_size (X : cCx p s m args meth c cc nL RX0 D G) (P : cP D A G ad H0 Kd U T zz F Ar H locs) {j : Nat} (hj : j < 4) (hdg : decode cc pc = .ok (.getfield 225, 3)) (kk : W p l e R s m args below meth c H locs cells slots Q (F0 m (pc + 3) ls (.int (F (41 + 2 * j)) :: rest))) : W p l e R s m args below meth c H locs cells slots Q (F0 m pc ls (.ref (ad (40 + j)) :: rest)) := by
  obtain ⟨hx, hb, hml, hown, hts, hK, hlk, hN⟩ := X
  exact gw_get hx hb hts in_X1 hown hK P.1 (cE_sheet hj) rfl 1 (by decide) (hts _ q150) (fun _ h => h) rfl hdg kk
theorem c_sg_cells (X : cCx p s m args meth c cc nL RX0 D G) (P : cP D A G ad H0 Kd U T zz F Ar H locs) {j : Nat} (hj : j < 4) (hdg : decode cc pc = .ok (.getfield 227, 3)) (kk : W p l e R s m args below meth c H locs cells slots Q (F0 m (pc + 3) ls (.ref (ad (44 + j)) :: rest))) : W p l e R s m args below meth c H locs cells slots Q (F0 m pc ls (.ref (ad (40 + j)) :: rest)) := by
  obtain ⟨hx, hb, hml, hown, hts, hK, hlk, hN⟩ := X
  exact gw_get hx hb hts in_X1 hown hK P.1 (cE_sheet hj) rfl 2 (by decide) (hts _ q152) (fun _ h => h) rfl hdg kk
theorem c_sp_sort (X : cCx p s m args meth c cc nL RX0 D G) (P : cP D A G ad H0 Kd U T zz F Ar H locs) {j : Nat} (hj : j < 4) {v : Int32} (hdg : decode cc pc = .ok (.putfield 222, 3)) (kk : ∀ (F1 : tF) (H1 : Heap) (locs1 : List Loc), F1 = upd F (40 + 2 * j) v → cP D A G ad H0 Kd U T zz F1 Ar H1 locs1 → H1.size = H.size → W p l e R s m args below meth c H1 locs1 cells slots Q (F0 m (pc + 3) ls rest)) : W p l e R s m args below meth c H locs cells slots Q (F0 m pc ls (.int v :: .ref (ad (40 + j)) :: rest)) := by
  obtain ⟨hx, hb, hml, hown, hts, hK, hlk, hN⟩ := X
  refine gw_put hx hb hts in_X1 tyX1 tyX1_ok nmX1 hown hK P.1 P.2.1 P.2.2.1 (cE_sheet hj) rfl 0 (by decide) (hts _ q148) (fun _ h => h) rfl (ty := .int) (by decide +kernel) rfl rfl (by simp) hdg ?_
  intro H1 locs1 hP hD hS hz
  have e : ([Value.int (F (40 + 2 * j)), .int (F (41 + 2 * j)), .ref (ad (44 + j))] : List Value).set 0 (.int v) = [.int v, .int (F (41 + 2 * j)), .ref (ad (44 + j))] := rfl
  rw [e, cE_putS hj] at hP hD
  exact kk _ H1 locs1 rfl ⟨hP, hD, hS, P.updF (by omega) (by omega)⟩ hz
theorem c_sp_size (X : cCx p s m args meth c cc nL RX0 D G) (P : cP D A G ad H0 Kd U T zz F Ar H locs) {j : Nat} (hj : j < 4) {v : Int32} (hdg : decode cc pc = .ok (.putfield 225, 3)) (kk : ∀ (F1 : tF) (H1 : Heap) (locs1 : List Loc), F1 = upd F (41 + 2 * j) v → cP D A G ad H0 Kd U T zz F1 Ar H1 locs1 → H1.size = H.size → W p l e R s m args below meth c H1 locs1 cells slots Q (F0 m (pc + 3) ls rest)) : W p l e R s m args below meth c H locs cells slots Q (F0 m pc ls (.int v :: .ref (ad (40 + j)) :: rest)) := by
  obtain ⟨hx, hb, hml, hown, hts, hK, hlk, hN⟩ := X
  refine gw_put hx hb hts in_X1 tyX1 tyX1_ok nmX1 hown hK P.1 P.2.1 P.2.2.1 (cE_sheet hj) rfl 1 (by decide) (hts _ q150) (fun _ h => h) rfl (ty := .int) (by decide +kernel) rfl rfl (by simp) hdg ?_
  intro H1 locs1 hP hD hS hz
  have e : ([Value.int (F (40 + 2 * j)), .int (F (41 + 2 * j)), .ref (ad (44 + j))] : List Value).set 1 (.int v) = [.int (F (40 + 2 * j)), .int v, .ref (ad (44 + j))] := rfl
  rw [e, cE_putZ hj] at hP hD
  exact kk _ H1 locs1 rfl ⟨hP, hD, hS, P.updF (by omega) (by omega)⟩ hz
/-- Arrays.fill of an int array of ours -/
theorem c_fill (X : cCx p s m args meth c cc nL RX0 D G) (P : cP D (cReg G ad Kd U zz s.heap.size) G ad s.heap Kd U T zz F Ar H locs) {k n : Nat} (h1 : cArr Kd k = some (0, n)) (hn : n < 2 ^ 31) {v : Int32} (hR : 1 ≤ R.frames ∧ 23 ≤ R.locals) (hls : ls.size = nL) (hst : (rest.map fun v => v.category).sum ≤ 8) (hcs : cells ≤ R.cells ∧ slots ≤ R.slots) (hdg : decode cc pc = .ok (.invokestatic 348, 3))
    (kk : ∀ (A1 : tA) (H1 : Heap) (locs1 : List Loc), A1 = aput Ar k (flF (Ar k) n v) → cP D (cReg G ad Kd U zz s.heap.size) G ad s.heap Kd U T zz F A1 H1 locs1 → W p l e R s m args below meth c H1 locs1 cells slots Q (F0 m (pc + 3) ls rest)) : W p l e R s m args below meth c H locs cells slots Q (F0 m pc ls (.int v :: .ref (ad k) :: rest)) := by
  obtain ⟨hx, hb, hml, hown, hts, hK, hlk, hN⟩ := X
  have he := cE_of (G := G) (ad := ad) (F := F) (Ar := Ar) (U := U) h1
  have hP1 := gw_one P.1 he
  have hK1 := hK.sub (tys' := [(G 0, .int)]) [0] rfl
  have hA : cReg G ad Kd U zz s.heap.size (ad k) := P.2.1.2 k (by rw [he]; exact fun z => by cases z)
  refine va_callv (va_runS (As := [.ref (ad k), .int v]) (rest := rest) ⟨hx, hb, hml, hown, hts⟩ (tJ11_fill l D (ad k) H.size (G 0) n hn (Ar k) v) (va_cwS 2 hts (lw_S q1210 q1211 q78 q1212) rfl rfl rfl (by decide +kernel) ⟨hR.1, hR.2⟩) ⟨blindK (f := fun X => X.size = H.size ∧ va_P D vcl [(ad k, .inl (G 0, n, .inl (Ar k)))] X), fun V hV hW => ⟨rfl, ⟨by rw [hV], by rw [hV]; exact hP1⟩, va_K.moved hW.alike hK1⟩⟩ rfl rfl hls rfl (lv_room hst) hdg hcs) P.2.2.1 (fun q _ h => by rw [h]; exact hA) (fun q h => by rw [h]; exact hA) (fun u t H1 locs1 ht hvm _ hB hz hk hS => ?_)
  have hP2 : gw_P D vcl ad (gw_set (cE G ad F Ar Kd U) k (.inl (G 0, n, .inl (flF (Ar k) n v)))) H1 := P.1.setL P.2.1 he (by rw [← ht]; exact hB 0 _ rfl) (fun q h1 h2 => hk q h1 h2)
  have hD2 : gw_D (cReg G ad Kd U zz s.heap.size) ad (gw_set (cE G ad F Ar Kd U) k (.inl (G 0, n, .inl (flF (Ar k) n v)))) := P.2.1.set he
  rw [cE_arr h1] at hP2 hD2
  exact kk _ H1 locs1 rfl ⟨hP2, hD2, hS, P.2.2.2⟩
/-- System.arraycopy between two int (byte) arrays of ours -/
theorem c_copy (X : cCx p s m args meth c cc nL RX0 D G) (P : cP D A G ad H0 Kd U T zz F Ar H locs) {k0 k1 n0 n1 : Nat} (h0 : cArr Kd k0 = some (0, n0)) (h1 : cArr Kd k1 = some (0, n1)) {sp dp n : Int32} (hh : (¬ sp < 0 ∧ ¬ dp < 0 ∧ ¬ n < 0) ∧ sp.toNatClampNeg + n.toNatClampNeg ≤ n0 ∧ dp.toNatClampNeg + n.toNatClampNeg ≤ n1) (hR : 1 ≤ R.frames ∧ 60 ≤ R.locals) (hls : ls.size = nL) (hst : (rest.map fun v => v.category).sum ≤ 8) (hdg : decode cc pc = .ok (.invokestatic 305, 3))
    (kk : ∀ (A1 : tA) (H1 : Heap) (locs1 : List Loc), A1 = aput Ar k1 (va_cpy (Ar k0) (Ar k1) sp.toNatClampNeg dp.toNatClampNeg n.toNatClampNeg) → cP D A G ad H0 Kd U T zz F A1 H1 locs1 → W p l e R s m args below meth c H1 locs1 cells slots Q (F0 m (pc + 3) ls rest)) : W p l e R s m args below meth c H locs cells slots Q (F0 m pc ls (.int n :: .int dp :: .ref (ad k1) :: .int sp :: .ref (ad k0) :: rest)) := by
  obtain ⟨hx, hb, hml, hown, hts, hK, hlk, hN⟩ := X
  have hw : nativeFrameWords "java/lang/System" "arraycopy" 5 + 11 ≤ 52 := by decide +kernel
  refine gw_copyi hx hb (by rw [hml, hls]) hown (hts _ q1167) (hts _ q343) (hts _ q342) (hts _ q79) hK P.1 P.2.1 P.2.2.1 0 0 (cE_of h0) (cE_of h1) rfl rfl rfl hh.1.1 hh.1.2.1 hh.1.2.2 hh.2.1 hh.2.2 (fun _ _ => rfl) hR.1 (by omega) hdg ?_
  intro H1 locs1 hP hD hS hz
  rw [cE_arr h1] at hP hD
  exact kk _ H1 locs1 rfl ⟨hP, hD, hS, P.2.2.2⟩
theorem c_copyb (X : cCx p s m args meth c cc nL RX0 D G) (P : cP D A G ad H0 Kd U T zz F Ar H locs) {k0 k1 n0 n1 : Nat} (h0 : cArr Kd k0 = some (1, n0)) (h1 : cArr Kd k1 = some (1, n1)) {sp dp n : Int32} (hh : (¬ sp < 0 ∧ ¬ dp < 0 ∧ ¬ n < 0) ∧ sp.toNatClampNeg + n.toNatClampNeg ≤ n0 ∧ dp.toNatClampNeg + n.toNatClampNeg ≤ n1) (hf : ∀ i, i < n.toNatClampNeg → fits .byte (.int (Ar k0 (sp.toNatClampNeg + i))) = true) (hR : 1 ≤ R.frames ∧ 60 ≤ R.locals) (hls : ls.size = nL) (hst : (rest.map fun v => v.category).sum ≤ 8) (hdg : decode cc pc = .ok (.invokestatic 305, 3))
    (kk : ∀ (A1 : tA) (H1 : Heap) (locs1 : List Loc), A1 = aput Ar k1 (va_cpy (Ar k0) (Ar k1) sp.toNatClampNeg dp.toNatClampNeg n.toNatClampNeg) → cP D A G ad H0 Kd U T zz F A1 H1 locs1 → W p l e R s m args below meth c H1 locs1 cells slots Q (F0 m (pc + 3) ls rest)) : W p l e R s m args below meth c H locs cells slots Q (F0 m pc ls (.int n :: .int dp :: .ref (ad k1) :: .int sp :: .ref (ad k0) :: rest)) := by
  obtain ⟨hx, hb, hml, hown, hts, hK, hlk, hN⟩ := X
  have hw : nativeFrameWords "java/lang/System" "arraycopy" 5 + 11 ≤ 52 := by decide +kernel
  refine gw_copyi hx hb (by rw [hml, hls]) hown (hts _ q1167) (hts _ q343) (hts _ q342) (hts _ q79) hK P.1 P.2.1 P.2.2.1 1 1 (cE_of h0) (cE_of h1) rfl rfl rfl hh.1.1 hh.1.2.1 hh.1.2.2 hh.2.1 hh.2.2 hf hR.1 (by omega) hdg ?_
  intro H1 locs1 hP hD hS hz
  rw [cE_arr h1] at hP hD
  exact kk _ H1 locs1 rfl ⟨hP, hD, hS, P.2.2.2⟩
end CR4
