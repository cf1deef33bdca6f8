/-! ===== numbered cells: a world is a table of cells E (by number) and their addresses ad ===== -/
set_option maxRecDepth 100000
abbrev tF : Type := Nat → Int32
abbrev tA : Type := Nat → Nat → Int32
def gw_P (D : va_G) (cl : List vw_C) (ad : Nat → Nat) (E : Nat → Option va_E) (H : Heap) : Prop := ∀ (k : Nat) (x : va_E), E k = some x → va_at D cl (ad k, x) H
def gw_D (A : Nat → Prop) (ad : Nat → Nat) (E : Nat → Option va_E) : Prop := (∀ j k : Nat, E j ≠ none → E k ≠ none → ad j = ad k → j = k) ∧ ∀ k : Nat, E k ≠ none → A (ad k)
def gw_set (E : Nat → Option va_E) (k : Nat) (x : va_E) : Nat → Option va_E := fun j => if j = k then some x else E j
theorem gw_one {D : va_G} {cl : List vw_C} {ad : Nat → Nat} {E : Nat → Option va_E} {H : Heap} (h : gw_P D cl ad E H) {k : Nat} {x : va_E} (he : E k = some x) : va_P D cl [(ad k, x)] H := by
  intro i q hq
  match i, hq with
  | 0, hq =>
    cases hq
    exact h k x he
theorem gw_P.set {D : va_G} {cl : List vw_C} {A : Nat → Prop} {ad : Nat → Nat} {E : Nat → Option va_E} {H H1 : Heap} {k : Nat} {x0 x : va_E} (h : gw_P D cl ad E H) (hD : gw_D A ad E) (he : E k = some x0) (h1 : va_at D cl (ad k, x) H1) (oq : ∀ q : Nat, q ≠ ad k → H1[q]? = H[q]?) : gw_P D cl ad (gw_set E k x) H1 := by
  intro j y hj
  unfold gw_set at hj
  by_cases e : j = k
  · subst e
    rw [if_pos rfl] at hj
    cases hj
    exact h1
  · rw [if_neg e] at hj
    exact (h j y hj).kept (oq _ (fun z => e (hD.1 j k (by rw [hj]; exact fun z => by cases z) (by rw [he]; exact fun z => by cases z) z)))
theorem gw_D.to {A : Nat → Prop} {ad : Nat → Nat} {E E2 : Nat → Option va_E} (hD : gw_D A ad E) (h : ∀ k, E2 k ≠ none → E k ≠ none) : gw_D A ad E2 := ⟨fun j k h1 h2 => hD.1 j k (h j h1) (h k h2), fun k h1 => hD.2 k (h k h1)⟩
theorem gw_D.set {A : Nat → Prop} {ad : Nat → Nat} {E : Nat → Option va_E} {k : Nat} {x0 x : va_E} (hD : gw_D A ad E) (he : E k = some x0) : gw_D A ad (gw_set E k x) := by
  refine hD.to (fun j h => ?_)
  by_cases e : j = k
  · subst e
    rw [he]
    exact fun z => by cases z
  · unfold gw_set at h
    rw [if_neg e] at h
    exact h
theorem vin_of {i : Int32} {n : Nat} (h : decide (¬ (i < 0 ∨ n ≤ i.toNatClampNeg)) = true) : vp_in i n := by
  unfold vp_in
  exact of_decide_eq_true h
theorem i32_ne {x y : Int32} (h : ¬ x = y) : x.toInt ≠ y.toInt := fun z => h (Int32.toInt_inj.mp z)
section GWR
variable {p : Program} {l : Launch} {e : Env} {R : Room} {s : State} {m : MethodId} {args : Array Value} {below : List Frame} {meth : Method} {c : Code} {H : Heap} {locs : List Loc} {cells slots : Nat} {Q : State → Prop}
variable {cc : ByteArray} {pc : Nat} {ls : Array Slot} {rest : List Value} {D : va_G} {cl : List vw_C} {A : Nat → Prop} {ad : Nat → Nat} {E : Nat → Option va_E} {tys : List (ClassId × FieldType)} {H0 : Heap}
theorem gw_get (hexec : p.tables.exec = Jvm.exec) (hb : c.code = cc) {own ref C : String} {T : u_T} {N ci index : Nat} {Ts : List Cond} (hts : ∀ w ∈ Ts, w.before args s = true) (hin : ∀ w ∈ u_ws C T N, w ∈ Ts) (hown : s.vm.findClass own = some m.cls) (hK : va_K D cl tys s) (hP : gw_P D cl ad E H) {q0 : Nat} {fs : List Value} (he : E q0 = some (.inr (ci, fs))) (hc : cl[ci]? = some (C, T, N)) (k : Nat) (hk : k < N) (hlink : (Cond.fieldLink own index ref (T k).2.1 (T k).2.2.1).before args s = true) (hsame : ∀ x, s.fieldFound? (T k).1 (T k).2.1 (T k).2.2.1 = some x → s.fieldFound? ref (T k).2.1 (T k).2.2.1 = some x) {v : Value} (hv : fs[k]? = some v) (hdg : decode cc pc = .ok (.getfield index, 3))
    (kk : W p l e R s m args below meth c H locs cells slots Q (F0 m (pc + 3) ls (v :: rest))) : W p l e R s m args below meth c H locs cells slots Q (F0 m pc ls (.ref (ad q0) :: rest)) :=
  va_get hexec hb hts hin hown hK (gw_one hP he) 0 rfl hc k hk hlink hsame hv hdg kk
theorem gw_put (hexec : p.tables.exec = Jvm.exec) (hb : c.code = cc) {own ref C : String} {T : u_T} {N ci index : Nat} {Ts : List Cond} (hts : ∀ w ∈ Ts, w.before args s = true) (hin : ∀ w ∈ u_ws C T N, w ∈ Ts) (ty0 : Nat → FieldType) (hty : ∀ k, k < N → parseFieldDescriptor (T k).2.2.1 = some (ty0 k)) (hnm : ∀ a, a < N → ∀ b, b < N → a ≠ b → (T a).2.1 ≠ (T b).2.1) (hown : s.vm.findClass own = some m.cls) (hK : va_K D cl tys s) (hP : gw_P D cl ad E H) (hD : gw_D A ad E) (hS0 : va_S A H0 H locs) {q0 : Nat} {fs : List Value} (he : E q0 = some (.inr (ci, fs))) (hc : cl[ci]? = some (C, T, N)) (k : Nat) (hk : k < N) (hlink : (Cond.fieldLink own index ref (T k).2.1 (T k).2.2.1).before args s = true) (hsame : ∀ x, s.fieldFound? (T k).1 (T k).2.1 (T k).2.2.1 = some x → s.fieldFound? ref (T k).2.1 (T k).2.2.1 = some x) (hfin : (T k).2.2.2 = false) {ty : FieldType} {v : Value} (hd : parseFieldDescriptor (T k).2.2.1 = some ty) (hn : narrow ty v = v) (hfit : fits ty v = true) (hl : k < fs.length)
    (hdg : decode cc pc = .ok (.putfield index, 3)) (kk : ∀ (H1 : Heap) (locs1 : List Loc), gw_P D cl ad (gw_set E q0 (.inr (ci, fs.set k v))) H1 → gw_D A ad (gw_set E q0 (.inr (ci, fs.set k v))) → va_S A H0 H1 locs1 → H1.size = H.size → W p l e R s m args below meth c H1 locs1 cells slots Q (F0 m (pc + 3) ls rest)) : W p l e R s m args below meth c H locs cells slots Q (F0 m pc ls (v :: .ref (ad q0) :: rest)) := by
  have hap := va_apart (own := own) hts hin ty0 hty hnm hK hc
  obtain ⟨r, h1, cell, q1, q2, q3, q4⟩ := hP q0 _ he
  have hr : r = (C, T, N) := Option.some.inj (h1.symm.trans hc)
  subst hr
  obtain ⟨hS, hfc, kC, hkC, hkind⟩ := hK.1 ci _ hc
  obtain ⟨cf, kf, fi, f, hi, hsl⟩ := hS k hk
  have hlay := hts _ (hin _ (u_in_lay hk))
  unfold u_lay at hlay
  rw [if_neg (by rw [hfin]; decide)] at hlay
  have hst := (u_facts hfc hkC (u_lays hts hin hk) hi).1
  have h6 := u_store hfc hkC hkind hlay hi hd hn hfit
  refine W.putK hexec hb (f := f) ⟨hown, hlink, ⟨_, _, _, hsame _ hi⟩, hst⟩ (by rw [q2]; exact h6) q1 q3 (by rw [hsl]; exact k2_hasslot (q4 k hk)) rfl rfl hdg fun H' e1 e2 e3 => ?_
  rw [hsl] at e1 ⊢
  exact kk H' _ (hP.set hD he ⟨_, hc, t_OB.to (V := updV (vp_V fs) k v) ⟨_, e1, q2, q3, t_set q4 hap hk v⟩ (fun j _ => vp_updV_set hl v j)⟩ e3) (hD.set he) (hS0.put e2 e3 (hD.2 q0 (by rw [he]; exact fun z => by cases z))) e2
theorem gw_iald (hexec : p.tables.exec = Jvm.exec) (hb : c.code = cc) (hK : va_K D cl tys s) (hP : gw_P D cl ad E H) {q0 : Nat} (t0 : Nat) {cA : ClassId} {n : Nat} {f : Nat → Int32} (ha : E q0 = some (.inl (cA, n, .inl f))) (ht : tys[t0]? = some (cA, .int)) {i : Int32} (hin : vp_in i n) (hdg : decode cc pc = .ok (.iaload, 1))
    (kk : W p l e R s m args below meth c H locs cells slots Q (F0 m (pc + 1) ls (.int (f i.toNatClampNeg) :: rest))) : W p l e R s m args below meth c H locs cells slots Q (F0 m pc ls (.int i :: .ref (ad q0) :: rest)) :=
  va_iald hexec hb hK (gw_one hP ha) 0 t0 rfl ht hin hdg kk
theorem gw_lald (hexec : p.tables.exec = Jvm.exec) (hb : c.code = cc) (hK : va_K D cl tys s) (hP : gw_P D cl ad E H) {q0 : Nat} (t0 : Nat) {cA : ClassId} {n : Nat} {f : Nat → Int64} (ha : E q0 = some (.inl (cA, n, .inr (.inl f)))) (ht : tys[t0]? = some (cA, .long)) {i : Int32} (hin : vp_in i n) (hdg : decode cc pc = .ok (.laload, 1))
    (kk : W p l e R s m args below meth c H locs cells slots Q (F0 m (pc + 1) ls (.long (f i.toNatClampNeg) :: rest))) : W p l e R s m args below meth c H locs cells slots Q (F0 m pc ls (.int i :: .ref (ad q0) :: rest)) :=
  va_lald hexec hb hK (gw_one hP ha) 0 t0 rfl ht hin hdg kk
theorem gw_bald (hexec : p.tables.exec = Jvm.exec) (hb : c.code = cc) (hK : va_K D cl tys s) (hP : gw_P D cl ad E H) {q0 : Nat} (t0 : Nat) {cA : ClassId} {n : Nat} {f : Nat → Int32} (ha : E q0 = some (.inl (cA, n, .inl f))) (ht : tys[t0]? = some (cA, .byte)) {i : Int32} (hin : vp_in i n) (hdg : decode cc pc = .ok (.baload, 1))
    (kk : W p l e R s m args below meth c H locs cells slots Q (F0 m (pc + 1) ls (.int (f i.toNatClampNeg) :: rest))) : W p l e R s m args below meth c H locs cells slots Q (F0 m pc ls (.int i :: .ref (ad q0) :: rest)) :=
  va_bald hexec hb hK (gw_one hP ha) 0 t0 rfl ht hin hdg kk
theorem gw_iast (hexec : p.tables.exec = Jvm.exec) (hb : c.code = cc) (hK : va_K D cl tys s) (hP : gw_P D cl ad E H) (hD : gw_D A ad E) (hS : va_S A H0 H locs) {q0 : Nat} (t0 : Nat) {cA : ClassId} {n : Nat} {f : Nat → Int32} (ha : E q0 = some (.inl (cA, n, .inl f))) (ht : tys[t0]? = some (cA, .int)) {i : Int32} {x : Int32} (hin : vp_in i n) (hdg : decode cc pc = .ok (.iastore, 1))
    (kk : ∀ (H1 : Heap) (locs1 : List Loc), gw_P D cl ad (gw_set E q0 (.inl (cA, n, .inl (upd f i.toNatClampNeg x)))) H1 → gw_D A ad (gw_set E q0 (.inl (cA, n, .inl (upd f i.toNatClampNeg x)))) → va_S A H0 H1 locs1 → H1.size = H.size → W p l e R s m args below meth c H1 locs1 cells slots Q (F0 m (pc + 1) ls rest)) : W p l e R s m args below meth c H locs cells slots Q (F0 m pc ls (.int x :: .int i :: .ref (ad q0) :: rest)) := by
  refine W.iast hexec hb (hP q0 _ ha) ((hK.2 t0 _ ht).1 n (fun j => .int (f j))) (fun q => by cases q) (by show ¬ (i < 0 ∨ (arrV _ _ _).slots.size ≤ _); rw [arrV_size]; exact hin) rfl rfl hdg fun H1 e z oq => ?_
  refine kk H1 _ (hP.set hD ha ?_ oq) (hD.set ha) (hS.put z oq (hD.2 q0 (by rw [ha]; exact fun z => by cases z))) z
  show H1[ad q0]? = some (vp_cell _ _)
  rw [e]
  rw [vp_cell_i, vp_cell_i, arrV_store]
  congr 2
  funext q
  by_cases hq : q = i.toNatClampNeg
  · subst hq
    simp [updV, upd]
  · simp [updV, upd, hq]
theorem gw_bast (hexec : p.tables.exec = Jvm.exec) (hb : c.code = cc) (hK : va_K D cl tys s) (hP : gw_P D cl ad E H) (hD : gw_D A ad E) (hS : va_S A H0 H locs) {q0 : Nat} (t0 : Nat) {cA : ClassId} {n : Nat} {f : Nat → Int32} (ha : E q0 = some (.inl (cA, n, .inl f))) (ht : tys[t0]? = some (cA, .byte)) {i : Int32} {x : Int32} (hin : vp_in i n) (hdg : decode cc pc = .ok (.bastore, 1))
    (kk : ∀ (H1 : Heap) (locs1 : List Loc), gw_P D cl ad (gw_set E q0 (.inl (cA, n, .inl (upd f i.toNatClampNeg (vp_nar .byte x))))) H1 → gw_D A ad (gw_set E q0 (.inl (cA, n, .inl (upd f i.toNatClampNeg (vp_nar .byte x))))) → va_S A H0 H1 locs1 → H1.size = H.size → W p l e R s m args below meth c H1 locs1 cells slots Q (F0 m (pc + 1) ls rest)) : W p l e R s m args below meth c H locs cells slots Q (F0 m pc ls (.int x :: .int i :: .ref (ad q0) :: rest)) := by
  refine W.bast hexec hb (hP q0 _ ha) ((hK.2 t0 _ ht).1 n (fun j => .int (f j))) (fun q => by cases q) (by show ¬ (i < 0 ∨ (arrV _ _ _).slots.size ≤ _); rw [arrV_size]; exact hin) rfl rfl hdg fun H1 e z oq => ?_
  refine kk H1 _ (hP.set hD ha ?_ oq) (hD.set ha) (hS.put z oq (hD.2 q0 (by rw [ha]; exact fun z => by cases z))) z
  show H1[ad q0]? = some (vp_cell _ _)
  rw [e]
  rw [vp_cell_i, vp_cell_i, arrV_store]
  congr 2
  funext q
  by_cases hq : q = i.toNatClampNeg
  · subst hq
    simp [updV, upd, vp_nar, narrow]
  · simp [updV, upd, hq]
/-- long compare and branch -/
theorem lc_ge (hexec : p.tables.exec = Jvm.exec) (hb : c.code = cc) {x y : Int64} {off : Int} {tgt : Nat} (hd1 : decode cc pc = .ok (.lcmp, 1)) (hdg : decode cc (pc + 1) = .ok (.ifCond .ge off, 3)) (ht : ((pc + 1 : Nat) : Int) + off = (tgt : Int))
    (kt : y ≤ x → W p l e R s m args below meth c H locs cells slots Q (F0 m tgt ls rest)) (kf : ¬ y ≤ x → W p l e R s m args below meth c H locs cells slots Q (F0 m (pc + 4) ls rest)) : W p l e R s m args below meth c H locs cells slots Q (F0 m pc ls (.long y :: .long x :: rest)) :=
  W.lcmp hexec hb hd1 (lv_if_ge hexec hb hdg ht (fun h => kt ((lg_cmp_ge x y).mp h)) (fun h => kf (fun z => h ((lg_cmp_ge x y).mpr z))))
theorem lc_lt (hexec : p.tables.exec = Jvm.exec) (hb : c.code = cc) {x y : Int64} {off : Int} {tgt : Nat} (hd1 : decode cc pc = .ok (.lcmp, 1)) (hdg : decode cc (pc + 1) = .ok (.ifCond .lt off, 3)) (ht : ((pc + 1 : Nat) : Int) + off = (tgt : Int))
    (kt : x < y → W p l e R s m args below meth c H locs cells slots Q (F0 m tgt ls rest)) (kf : ¬ x < y → W p l e R s m args below meth c H locs cells slots Q (F0 m (pc + 4) ls rest)) : W p l e R s m args below meth c H locs cells slots Q (F0 m pc ls (.long y :: .long x :: rest)) :=
  W.lcmp hexec hb hd1 (lv_if_lt hexec hb hdg ht (fun h => kt ((lg_cmp_lt x y).mp h)) (fun h => kf (fun z => h ((lg_cmp_lt x y).mpr z))))
theorem lc_gt (hexec : p.tables.exec = Jvm.exec) (hb : c.code = cc) {x y : Int64} {off : Int} {tgt : Nat} (hd1 : decode cc pc = .ok (.lcmp, 1)) (hdg : decode cc (pc + 1) = .ok (.ifCond .gt off, 3)) (ht : ((pc + 1 : Nat) : Int) + off = (tgt : Int))
    (kt : y < x → W p l e R s m args below meth c H locs cells slots Q (F0 m tgt ls rest)) (kf : ¬ y < x → W p l e R s m args below meth c H locs cells slots Q (F0 m (pc + 4) ls rest)) : W p l e R s m args below meth c H locs cells slots Q (F0 m pc ls (.long y :: .long x :: rest)) :=
  W.lcmp hexec hb hd1 (lv_if_gt hexec hb hdg ht (fun h => kt ((lg_cmp_gt x y).mp h)) (fun h => kf (fun z => h ((lg_cmp_gt x y).mpr z))))
theorem lc_le (hexec : p.tables.exec = Jvm.exec) (hb : c.code = cc) {x y : Int64} {off : Int} {tgt : Nat} (hd1 : decode cc pc = .ok (.lcmp, 1)) (hdg : decode cc (pc + 1) = .ok (.ifCond .le off, 3)) (ht : ((pc + 1 : Nat) : Int) + off = (tgt : Int))
    (kt : x ≤ y → W p l e R s m args below meth c H locs cells slots Q (F0 m tgt ls rest)) (kf : ¬ x ≤ y → W p l e R s m args below meth c H locs cells slots Q (F0 m (pc + 4) ls rest)) : W p l e R s m args below meth c H locs cells slots Q (F0 m pc ls (.long y :: .long x :: rest)) :=
  W.lcmp hexec hb hd1 (lv_if_le hexec hb hdg ht (fun h => kt ((lg_cmp_le x y).mp h)) (fun h => kf (fun z => h ((lg_cmp_le x y).mpr z))))
theorem lc_eq (hexec : p.tables.exec = Jvm.exec) (hb : c.code = cc) {x y : Int64} {off : Int} {tgt : Nat} (hd1 : decode cc pc = .ok (.lcmp, 1)) (hdg : decode cc (pc + 1) = .ok (.ifCond .eq off, 3)) (ht : ((pc + 1 : Nat) : Int) + off = (tgt : Int))
    (kt : x = y → W p l e R s m args below meth c H locs cells slots Q (F0 m tgt ls rest)) (kf : ¬ x = y → W p l e R s m args below meth c H locs cells slots Q (F0 m (pc + 4) ls rest)) : W p l e R s m args below meth c H locs cells slots Q (F0 m pc ls (.long y :: .long x :: rest)) :=
  W.lcmp hexec hb hd1 (lv_if_eq hexec hb hdg ht (fun h => kt ((lg_cmp_eq x y).mp h)) (fun h => kf (fun z => h ((lg_cmp_eq x y).mpr z))))
theorem lc_ne (hexec : p.tables.exec = Jvm.exec) (hb : c.code = cc) {x y : Int64} {off : Int} {tgt : Nat} (hd1 : decode cc pc = .ok (.lcmp, 1)) (hdg : decode cc (pc + 1) = .ok (.ifCond .ne off, 3)) (ht : ((pc + 1 : Nat) : Int) + off = (tgt : Int))
    (kt : ¬ x = y → W p l e R s m args below meth c H locs cells slots Q (F0 m tgt ls rest)) (kf : x = y → W p l e R s m args below meth c H locs cells slots Q (F0 m (pc + 4) ls rest)) : W p l e R s m args below meth c H locs cells slots Q (F0 m pc ls (.long y :: .long x :: rest)) :=
  W.lcmp hexec hb hd1 (lv_if_ne hexec hb hdg ht (fun h => kt (fun z => h ((lg_cmp_eq x y).mpr z))) (fun h => kf ((lg_cmp_eq x y).mp h)))
/-- tableswitch at a known number -/
theorem ts_in (hexec : p.tables.exec = Jvm.exec) (hb : c.code = cc) {dflt lo hi : Int} {offs : Array Int} {len : Nat} {x : Int32} {off : Int} {tgt : Nat} (hdg : decode cc pc = .ok (.tableswitch dflt lo hi offs, len)) (v : Int32) (hv : x = v) (h : decide (¬ v.toInt < lo ∧ ¬ hi < v.toInt ∧ offs[(v.toInt - lo).toNat]? = some off) = true) (ht : (pc : Int) + off = (tgt : Int))
    (k : W p l e R s m args below meth c H locs cells slots Q (F0 m tgt ls rest)) : W p l e R s m args below meth c H locs cells slots Q (F0 m pc ls (.int x :: rest)) := by
  subst hv
  have h := of_decide_eq_true h
  exact lv_tableIn hexec hb hdg h.1 h.2.1 h.2.2 ht k
end GWR
