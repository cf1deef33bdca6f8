/-! ===== further rows over the class's world: texts, sheets, Math, copies ===== -/
set_option maxRecDepth 100000
theorem i32_nat {x y : Int32} (hx : ¬ x < 0) (h : x < y) : (x.toNatClampNeg : Int) < y.toInt := by
  obtain ⟨a, ha, rfl⟩ := nI_of hx
  have h2 := Int32.lt_iff_toInt_lt.mp h
  rw [nI_toInt ha] at h2
  rw [nI_clamp ha]
  exact h2
section CR3
variable {p : Program} {l : Launch} {e : Env} {R : Room} {s : State} {m : MethodId} {args : Array Value} {below : List Frame} {meth : Method} {c : Code} {H : Heap} {locs : List Loc} {cells slots : Nat} {Q : State → Prop}
variable {cc : ByteArray} {nL pc : Nat} {ls : Array Slot} {rest : List Value} {D : va_G} {A : Nat → Prop} {G ad : Nat → Nat} {H0 : Heap} {Kd : tK} {U : tU} {T : tT} {zz : Int32} {F : tF} {Ar : tA}
theorem gw_aald (hexec : p.tables.exec = Jvm.exec) (hb : c.code = cc) {tys : List (ClassId × FieldType)} {cl : List vw_C} {E : Nat → Option va_E} (hK : va_K D cl tys s) (hP : gw_P D cl ad E H) {q0 : Nat} (t0 : Nat) {cA : ClassId} {ty : FieldType} {n : Nat} {f : Nat → Option Nat} (ha : E q0 = some (.inl (cA, n, .inr (.inr (.inr (.inr f)))))) (ht : tys[t0]? = some (cA, ty)) (hr : ty.isReference = true) {i : Int32} (hin : vp_in i n) (hdg : decode cc pc = .ok (.aaload, 1))
    (kk : W p l e R s m args below meth c H locs cells slots Q (F0 m (pc + 1) ls (va_rf (f i.toNatClampNeg) :: rest))) : W p l e R s m args below meth c H locs cells slots Q (F0 m pc ls (.int i :: .ref (ad q0) :: rest)) := by
  have hlt : i.toNatClampNeg < n := Nat.not_le.mp fun q => hin (Or.inr q)
  exact W.aald (v := va_rf (f i.toNatClampNeg)) (ty := ty) hexec hb (hP q0 _ ha) ((hK.2 t0 _ ht).1 n (fun j => va_rf (f j))) hr (fun q => by cases q) (by show ¬ (i < 0 ∨ (arrV _ _ _).slots.size ≤ _); rw [arrV_size]; exact hin) (by show (arrV _ _ _).slots[_]? = _; rw [arrV_read _ _ hlt]) rfl rfl hdg kk
theorem cE_node {k : Nat} : cE G ad F Ar Kd U (200 + k) = U.1 k := by
  have h1 : cArr Kd (200 + k) = none := by
    unfold cArr
    rw [if_neg (by omega), if_neg (by omega)]
  rw [cE_ob h1]
  unfold cOb
  rw [if_neg (by omega), if_neg (by omega), if_neg (by omega), if_neg (by omega), if_neg (by omega), if_neg (by omega), if_neg (by omega), if_neg (by omega), if_pos (by omega), Nat.add_sub_cancel_left]
/-- texts[i] -/
theorem c_taald (X : cCx p s m args meth c cc nL RX0 D G) (P : cP D A G ad H0 Kd U T zz F Ar H locs) {i : Int32} (hin : vp_in i 6) (hlt : i < F 28) (hdg : decode cc pc = .ok (.aaload, 1))
    (kk : ∀ t k0 k1 : Nat, U.1 t = some (.inl (G 6, 2, .inr (.inr (.inr (.inr (fun i => if i = 0 then some (ad (200 + k0)) else some (ad (200 + k1)))))))) → cTr U.1 ad 200 k0 (T i.toNatClampNeg 0) → cTr U.1 ad 200 k1 (T i.toNatClampNeg 1) → W p l e R s m args below meth c H locs cells slots Q (F0 m (pc + 1) ls (.ref (ad (200 + t)) :: rest))) : W p l e R s m args below meth c H locs cells slots Q (F0 m pc ls (.int i :: .ref (ad 28) :: rest)) := by
  obtain ⟨hx, hb, hml, hown, hts, hK, hlk, hN⟩ := X
  obtain ⟨t, k0, k1, h1, h2, h3, h4⟩ := P.2.2.2.2.1 i.toNatClampNeg (i32_nat (fun z => hin (Or.inl z)) hlt)
  refine gw_aald hx hb hK P.1 3 (ty := .array (.object "GateRoad$Node")) (f := fun j => (U.2 j).map (fun t => ad (200 + t))) (cA := G 3) (n := 6) rfl rfl rfl hin hdg ?_
  show W p l e R s m args below meth c H locs cells slots Q (F0 m (pc + 1) ls (va_rf ((U.2 i.toNatClampNeg).map (fun t => ad (200 + t))) :: rest))
  rw [h1]
  exact kk t k0 k1 h2 h3 h4
/-- .. [part] -/
theorem c_raald (X : cCx p s m args meth c cc nL RX0 D G) (P : cP D A G ad H0 Kd U T zz F Ar H locs) {t k0 k1 j : Nat} (h2 : U.1 t = some (.inl (G 6, 2, .inr (.inr (.inr (.inr (fun i => if i = 0 then some (ad (200 + k0)) else some (ad (200 + k1))))))))) (h3 : cTr U.1 ad 200 k0 (T j 0)) (h4 : cTr U.1 ad 200 k1 (T j 1)) {i : Int32} (hin : vp_in i 2) (hdg : decode cc pc = .ok (.aaload, 1))
    (kk : ∀ k : Nat, cTr U.1 ad 200 k (T j i.toNatClampNeg) → W p l e R s m args below meth c H locs cells slots Q (F0 m (pc + 1) ls (.ref (ad (200 + k)) :: rest))) : W p l e R s m args below meth c H locs cells slots Q (F0 m pc ls (.int i :: .ref (ad (200 + t)) :: rest)) := by
  obtain ⟨hx, hb, hml, hown, hts, hK, hlk, hN⟩ := X
  refine gw_aald hx hb hK P.1 6 (ty := .object "GateRoad$Node") (cE_node.trans h2) rfl rfl hin hdg ?_
  have hlt : i.toNatClampNeg < 2 := Nat.not_le.mp fun q => hin (Or.inr q)
  by_cases h0 : i.toNatClampNeg = 0
  · have := kk k0 (by rw [h0]; exact h3)
    simp only [h0, if_true]
    exact this
  · have h1 : i.toNatClampNeg = 1 := by omega
    have := kk k1 (by rw [h1]; exact h4)
    simp only [h1]
    exact this
/-- .. .worth(names) -/
theorem c_worth (X : cCx p s m args meth c cc nL RX0 D G) (P : cP D A G ad H0 Kd U T zz F Ar H locs) {k : Nat} {code : List Int32} (h : cTr U.1 ad 200 k code) (hR : 200 ≤ R.frames ∧ 4600 ≤ R.locals) (hls : ls.size = nL) (hst : (rest.map fun v => v.category).sum ≤ 8) (hcs : cells ≤ R.cells ∧ slots ≤ R.slots) (hdg : decode cc pc = .ok (.invokeinterface 156 2, 5)) (kk : W p l e R s m args below meth c H locs cells slots Q (F0 m (pc + 5) ls (.int (evT code (Ar 10)) :: rest))) : W p l e R s m args below meth c H locs cells slots Q (F0 m pc ls (.ref (ad 10) :: .ref (ad (200 + k)) :: rest)) := by
  obtain ⟨hx, hb, hml, hown, hts, hK, hlk, hN⟩ := X
  exact wRow_all 200 (cI := G 0) (nm := Ar 10) ⟨hx, hb, hml, hown, hts⟩ q1049 (hK.sub [0] rfl) hN.2 (cTr_h P.1 200 k code h) (P.1 10 _ (cE_of (G := G) (ad := ad) (F := F) (Ar := Ar) (Kd := Kd) (U := U) (k := 10) (g := 0) (n := 6) rfl)) hR.1 hR.2 hls hst hcs hdg kk
theorem c_max (X : cCx p s m args meth c cc nL RX0 D G) {x y : Int32} (hR : 1 ≤ R.frames ∧ 21 ≤ R.locals) (hls : ls.size = nL) (hst : (rest.map fun v => v.category).sum ≤ 8) (hcs : cells ≤ R.cells ∧ slots ≤ R.slots) (hdg : decode cc pc = .ok (.invokestatic 168, 3)) (kk : W p l e R s m args below meth c H locs cells slots Q (F0 m (pc + 3) ls (.int (if x < y then y else x) :: rest))) : W p l e R s m args below meth c H locs cells slots Q (F0 m pc ls (.int y :: .int x :: rest)) := by
  obtain ⟨hx, hb, hml, hown, hts, hK, hlk, hN⟩ := X
  exact va_mmax hx hb (by rw [hml, hls]) hown (hts _ q1024) (hts _ q321) (hts _ q77) (hts _ q322) hR.1 (by omega) hcs.1 hcs.2 hdg kk
theorem c_min (X : cCx p s m args meth c cc nL RX0 D G) {x y : Int32} (hR : 1 ≤ R.frames ∧ 21 ≤ R.locals) (hls : ls.size = nL) (hst : (rest.map fun v => v.category).sum ≤ 8) (hcs : cells ≤ R.cells ∧ slots ≤ R.slots) (hdg : decode cc pc = .ok (.invokestatic 162, 3)) (kk : W p l e R s m args below meth c H locs cells slots Q (F0 m (pc + 3) ls (.int (if y < x then y else x) :: rest))) : W p l e R s m args below meth c H locs cells slots Q (F0 m pc ls (.int y :: .int x :: rest)) := by
  obtain ⟨hx, hb, hml, hown, hts, hK, hlk, hN⟩ := X
  exact va_mmin hx hb (by rw [hml, hls]) hown (hts _ q1074) (hts _ q339) (hts _ q77) (hts _ q340) hR.1 (by omega) hcs.1 hcs.2 hdg kk
theorem c_abs (X : cCx p s m args meth c cc nL RX0 D G) {x : Int64} (hR : 1 ≤ R.frames ∧ 21 ≤ R.locals) (hls : ls.size = nL) (hst : (rest.map fun v => v.category).sum ≤ 8) (hcs : cells ≤ R.cells ∧ slots ≤ R.slots) (hdg : decode cc pc = .ok (.invokestatic 299, 3)) (kk : W p l e R s m args below meth c H locs cells slots Q (F0 m (pc + 3) ls (.long (if 0 < x then x else -x) :: rest))) : W p l e R s m args below meth c H locs cells slots Q (F0 m pc ls (.long x :: rest)) := by
  obtain ⟨hx, hb, hml, hown, hts, hK, hlk, hN⟩ := X
  exact va_mabs_long hx hb (by rw [hml, hls]) hown (hts _ q1159) (hts _ q1160) (hts _ q77) (hts _ q1161) hR.1 (by omega) hcs.1 hcs.2 hdg kk
end CR3
