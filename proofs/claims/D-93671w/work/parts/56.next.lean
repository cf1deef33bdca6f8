/-! ===== Reader.next; by gen/rd2.py ===== -/
set_option maxRecDepth 100000
theorem OF_of {D : va_G} {cl : List vw_C} {tys : List (ClassId × FieldType)} {s : State} {args : Array Value} {H : Heap} {ws : va_W} {C : String} {T : u_T} {N ci : Nat} {Ts : List Cond} {A : Nat → Prop} {a : Nat} (hts : ∀ w ∈ Ts, w.before args s = true) (hin : ∀ w ∈ u_ws C T N, w ∈ Ts) (hK : va_K D cl tys s) (hP : va_P D cl ws H) (q0 : Nat) {fs : List Value} (he : ws[q0]? = some (a, .inr (ci, fs))) (hc : cl[ci]? = some (C, T, N)) (k : Nat) (hk : k < N) {v : Value} (hv : fs[k]? = some v) (hA : ¬ A a) : va_OF (T k).1 (T k).2.1 (T k).2.2.1 v a A s H := by
  obtain ⟨r, h1, cell, q1, q2, q3, q4⟩ := hP q0 _ he
  have hr : r = (C, T, N) := Option.some.inj (h1.symm.trans hc)
  subst hr
  obtain ⟨hS, hfc, kC, hkC, hkind⟩ := hK.1 ci _ hc
  obtain ⟨cf, kf, fi, f, hi, hsl⟩ := hS k hk
  refine ⟨cf, kf, fi, f, cell, hi, (u_facts hfc hkC (u_lays hts hin hk) hi).1, q1, (by rw [q3]; exact fun h => (by cases h)), ?_, hA⟩
  rw [hsl, q4 k hk]
  simp only [vp_V]
  rw [List.getD_eq_getElem?_getD, hv]
  rfl
theorem T_of {D : va_G} {cl : List vw_C} {tys : List (ClassId × FieldType)} {s : State} {H : Heap} {ws : va_W} {A : Nat → Prop} {a : Nat} {ty : FieldType} (hK : va_K D cl tys s) (hP : va_P D cl ws H) (q0 t0 : Nat) {cA : ClassId} {n : Nat} {f : Nat → Int32} (ha : ws[q0]? = some (a, .inl (cA, n, .inl f))) (ht : tys[t0]? = some (cA, ty)) (hA : ¬ A a) : va_T ty a n (fun j => .int (f j)) A s H := by
  refine ⟨arrV cA n (fun j => .int (f j)), hP q0 _ ha, (hK.2 t0 _ ht).1 n (fun j => .int (f j)), fun q => (by cases q), (by rw [arrV_size]; try exact Nat.le_refl _), (by rw [arrV_size]; try rfl), fun j hj => arrV_read _ _ hj, hA⟩
theorem sS_of {D : va_G} {s : State} {args : Array Value} {H : Heap} {t tv cB k : Nat} {A : Nat → Prop} {f : Nat → Int32} {b : List Int32} (hts : ∀ w ∈ lw_all, w.before args s = true) (hK : va_K D vcl [(cB, .byte)] s) (hP : va_P D vcl (stC t tv cB k f) H) (h1 : ¬ A t) (h2 : ¬ A tv) (hk : b.length = k) (hb : ∀ j, j < k → f j = b.getD j 0) : sS t b A s H := by
  refine ⟨?_, OF_of hts in_J3 hK hP 0 rfl (ci := 19) rfl 1 (by decide) rfl h1, tv, OF_of hts in_J3 hK hP 0 rfl (ci := 19) rfl 0 (by decide) rfl h1, ?_⟩
  · obtain ⟨cell, g1, g2, g3⟩ := va_recv hK hP (ci := 19) (q0 := 0) rfl rfl
    exact ⟨cell, g1, g2, g3, h1⟩
  · obtain ⟨cell, g1, g2, g3, g4, g5, g6, g7⟩ := T_of (A := A) (ty := .byte) hK hP 1 0 rfl rfl h2
    subst hk
    refine ⟨cell, g1, g2, g3, g4, g5, fun j hj => ?_, g7⟩
    rw [g6 j hj]
    have : va_cpy f (fun _ => 0) 0 0 b.length j = f j := by
      simp [va_cpy, hj]
    simp only [this, hb j hj]
theorem i32_of {x : Int32} {lo hi : Nat} (hlo : lo < 2 ^ 31) (hhi : hi < 2 ^ 31) (h1 : nI lo ≤ x) (h2 : x ≤ nI hi) : ∃ k, lo ≤ k ∧ k ≤ hi ∧ x = nI k := by
  have a1 := Int32.le_iff_toInt_le.mp h1
  have a2 := Int32.le_iff_toInt_le.mp h2
  rw [nI_toInt hhi] at a2
  rw [nI_toInt hlo] at a1
  refine ⟨x.toInt.toNat, by omega, by omega, ?_⟩
  apply Int32.toInt_inj.mp
  rw [nI_toInt (by omega)]
  omega
theorem and255 (x : Int32) : ¬ (x &&& 255) < 0 ∧ ¬ 255 < (x &&& 255) := by
  have h : (x &&& 255).toBitVec.toNat ≤ 255 := by
    rw [Int32.toBitVec_and, BitVec.toNat_and]
    exact Nat.and_le_right
  have h2 : (x &&& 255).toInt = ((x &&& 255).toBitVec.toNat : Int) := by
    show (x &&& 255).toBitVec.toInt = _
    exact BitVec.toInt_eq_toNat_of_lt (by omega)
  constructor
  · rw [Int32.lt_iff_toInt_lt, h2, Int32.toInt_zero]
    omega
  · rw [Int32.lt_iff_toInt_lt, h2, show (255 : Int32).toInt = 255 from by decide]
    omega
def isLet (c : Int32) : Prop := 97 ≤ c ∧ c ≤ 122
def isDig (c : Int32) : Prop := 48 ≤ c ∧ c ≤ 57
theorem inV_of {x lo hi : Int32} : inV x.toInt64 lo.toInt64 hi.toInt64 = if lo ≤ x ∧ x ≤ hi then 1 else 0 := by
  unfold inV
  have e1 : (x.toInt64 < lo.toInt64) ↔ ¬ lo ≤ x := by
    rw [Int64.lt_iff_toInt_lt, Int32.toInt_toInt64, Int32.toInt_toInt64, Int32.le_iff_toInt_le]; omega
  have e2 : (hi.toInt64 < x.toInt64) ↔ ¬ x ≤ hi := by
    rw [Int64.lt_iff_toInt_lt, Int32.toInt_toInt64, Int32.toInt_toInt64, Int32.le_iff_toInt_le]; omega
  by_cases h1 : lo ≤ x
  · rw [if_neg (fun z => (e1.mp z) h1)]
    by_cases h2 : x ≤ hi
    · rw [if_neg (fun z => (e2.mp z) h2), if_pos ⟨h1, h2⟩]
    · rw [if_pos (e2.mpr h2), if_neg (fun z => h2 z.2)]
  · rw [if_pos (e1.mpr h1), if_neg (fun z => h1 z.1)]
theorem inV_let (x : Int32) : inV x.toInt64 97 122 = if 97 ≤ x ∧ x ≤ 122 then 1 else 0 := inV_of (lo := 97) (hi := 122)
theorem inV_dig (x : Int32) : inV x.toInt64 48 57 = if 48 ≤ x ∧ x ≤ 57 then 1 else 0 := inV_of (lo := 48) (hi := 57)
def skp (tp : Nat → Int32) (n : Nat) : Nat → Nat → Nat
  | 0, a => a
  | f + 1, a => if hr tp n a = 32 ∨ hr tp n a = 10 then skp tp n f (a + 1) else a
def wrd (tp : Nat → Int32) (n : Nat) : Nat → List Int32 → Nat → List Int32 × Nat
  | 0, b, a => (b, a)
  | f + 1, b, a => if 97 ≤ hr tp n a ∧ hr tp n a ≤ 122 then wrd tp n f (if b.length < 9 then b ++ [hr tp n a] else b) (a + 1) else (b, a)
def dig (tp : Nat → Int32) (n : Nat) : Nat → Nat → Int32 → Nat → Nat × Int32 × Nat
  | 0, k, v, a => (k, v, a)
  | f + 1, k, v, a => if 48 ≤ hr tp n a ∧ hr tp n a ≤ 57 then dig tp n f (k + 1) (if k < 4 then 10 * v + hr tp n a - 48 else v) (a + 1) else (k, v, a)
def sTok (tp : Nat → Int32) (n op p : Nat) : Sum Nat tR :=
  if 97 ≤ hr tp n p ∧ hr tp n p ≤ 122 then .inr ((wrd tp n (n + 1) [] p).2, p, op, some (wrd tp n (n + 1) [] p).1, -1, -1)
  else if 48 ≤ hr tp n p ∧ hr tp n p ≤ 57 then (if 4 < (dig tp n (n + 1) 0 0 p).1 then .inl p else .inr ((dig tp n (n + 1) 0 0 p).2.2, p, op, none, (dig tp n (n + 1) 0 0 p).2.1, -1))
  else if p < n then (if ixf sgB (hr tp n p).toInt8.toInt32 8 0 < 0 then .inl p else .inr (p + 1, p, op, none, -1, hr tp n p))
  else .inr (p, p, op, none, -1, -1)
def sNext (tp : Nat → Int32) (n : Nat) (ρ : tR) : Sum Nat tR := sTok tp n ρ.2.2.1 (skp tp n (n + 1) ρ.1)
theorem hr_lt {tp : Nat → Int32} {n a : Nat} (h : 0 ≤ hr tp n a) : a < n := by
  unfold hr at h
  by_cases e : a < n
  · exact e
  · rw [if_neg e] at h
    exact absurd h (by decide)
theorem hr_rng {tp : Nat → Int32} {n a : Nat} (h : a < n) : ¬ hr tp n a < 0 ∧ ¬ 255 < hr tp n a := by
  unfold hr
  rw [if_pos h]
  exact and255 _
def rdE (D : va_G) (r tx cB NN : Nat) (tp : Nat → Int32) (n : Nat) (E : Nat → Prop) (ρ : tR) (t : State) : Prop := ∃ wv, va_P D vcl (rdW r tx cB NN tp n ρ wv) t.heap ∧ wdOK E ρ.2.2.2.1 wv t t.heap
def rdB (D : va_G) (r tx cB NN : Nat) (tp : Nat → Int32) (n : Nat) (ρ : tR) (sz : Nat) (V : State) : Prop := V.heap.size = sz ∧ rdE D r tx cB NN tp n (fun q => q = r) ρ V ∧ va_K D vcl [(cB, .byte)] V ∧ rK (rA r tx sz) V V.heap
theorem rd_blind {as : List Value} {D : va_G} {r tx cB NN : Nat} {tp : Nat → Int32} {n : Nat} {ρ : tR} {sz : Nat} : FrameBlind (va_Pc as (rdB D r tx cB NN tp n ρ sz)) := fun a V g mk q => by
  obtain ⟨q0, q1, ⟨wv, q2, q3⟩, q4, q5⟩ := q
  exact ⟨q0, q1, ⟨wv, q2, q3.moved (Vm.Alike.refl V.vm)⟩, va_K.moved (u := V) (U := V.calling g mk a) (Vm.Alike.refl V.vm) q4, q5.same rfl⟩
def flt (D : va_G) (tx cB NN : Nat) (tp : Nat → Int32) (a pl : Nat) (t : State) : Prop := va_P D vcl [(a, .inr (16, oFs (nI pl)))] t.heap ∧ va_P D vcl [(tx, .inl (cB, NN, .inl tp))] t.heap
theorem flt.at {D : va_G} {tx cB NN : Nat} {tp : Nat → Int32} {a pl : Nat} {t t2 : State} (h : flt D tx cB NN tp a pl t) (ht : t2.heap = t.heap) : flt D tx cB NN tp a pl t2 := by
  unfold flt
  rw [ht]
  exact h
def nxQ (D : va_G) (r tx cB NN : Nat) (tp : Nat → Int32) (n sz : Nat) (σ : Sum Nat tR) (v : Option Value) : Array Value → State → Outcome → State → Prop := fun _ st o t => va_F (rA r tx sz) st t ∧
  ((∃ ρ', σ = .inr ρ' ∧ o = .returned v ∧ rdE D r tx cB NN tp n (fun q => q < sz) ρ' t) ∨ (∃ pl, σ = .inl pl ∧ ∃ a, o = .threw a ∧ sz ≤ a ∧ flt D tx cB NN tp a pl t))
section RTH
variable {p : Program} {l : Launch} {e : Env} {R : Room} {s : State} {m : MethodId} {args : Array Value} {below : List Frame} {meth : Method} {c : Code} {H : Heap} {locs : List Loc} {cells slots mc ms : Nat} {Qc : Array Value → State → Outcome → State → Prop}
variable {cc : ByteArray} {nL pc : Nat} {ls : Array Slot} {D : va_G} {r tx cB NN n : Nat} {tp : Nat → Int32} {ρ : tR} {wv : Value} {A : Nat → Prop}
/-- throw fault(), out of the method -/
theorem rd_throw (hx : p.tables.exec = Jvm.exec) (hb : c.code = cc) (hml : c.maxLocals = nL) (hown : s.vm.findClass RX2 = some m.cls) (hts : ∀ w ∈ lw_all, w.before args s = true) (hlk : meth.locks = false) (hno : c.exceptionTable.toList = []) (hK : va_K D vcl [(cB, .byte)] s) (hz : zTh A s s.heap) (hP : va_P D vcl (rdW r tx cB NN tp n ρ wv) H) (hS : va_S A s.heap H locs) (hA : ∀ q, s.heap.size ≤ q → A q)
    (hR : 6 ≤ R.frames ∧ 125 ≤ R.locals) (hC : cells + 1 ≤ R.cells ∧ slots + 7 ≤ R.slots) (h1 : cells + 1 ≤ mc) (h2 : slots + 7 ≤ ms) (hls : ls.size = nL) (hd1 : decode cc pc = .ok (.invokevirtual 73, 3)) (hd2 : decode cc (pc + 3) = .ok (.athrow, 1))
    (hq : ∀ (t : State) (a : Nat) (L : List Loc), s.heap.size ≤ a → flt D tx cB NN tp a ρ.2.1 t → va_F A s t → xFE s t L (cells + 1) (slots + 7) → (∀ q ∈ L, A q.base) → Qc args s (.threw a) t) :
    W p l e R s m args below meth c H locs cells slots (xMQ below Qc args s mc ms A) (F0 m pc ls [.ref r]) := by
  have hzz : s.heap.size ≤ H.size := hS.1
  refine va_callr (va_runV (C := RX2) (As := []) (rest := []) ⟨hx, hb, hml, hown, hts⟩ (tX2_fault l D r tx cB NN tp n ρ wv H.size) (cwV 0 hts (lw_V q429 q431 qs2 q73 q432) rfl rfl rfl (by decide +kernel) ⟨hR.1, hR.2⟩) ⟨fl_blind, va_recv hK hP (ci := 13) (q0 := 0) rfl rfl, fun U hU hW => ⟨rfl, ⟨by rw [hU], by rw [hU]; exact hP, va_K.moved hW.alike hK⟩, by rw [hU]; exact ((hz.kept (fun q g1 g2 => hS.2.1 q g1 g2)).narrow (fun q h => hA q (Nat.le_trans hzz h))).moved hW.alike⟩⟩ rfl rfl hls rfl (lv_room (Nat.le_of_ble_eq_true rfl)) hd1 hC) hS (fun q _ h => hA q (Nat.le_trans hzz h)) (fun q h => hA q (Nat.le_trans hzz h)) (fun b a t H1 locs1 ht hvm hp hB hz hkp hS => ?_)
  refine x_athrow hx hb hd2 ?_
  exact x_outE hno hlk (fun t2 ht2 hW hfe => hq t2 a locs1 (Nat.le_trans hzz hB.1) ⟨by rw [ht2, ← ht]; exact hB.2, fun k q hq => (by match k, hq with | 0, hq => cases hq; rw [ht2]; exact (hP 1 _ rfl).kept (hkp _ (hP 1 _ rfl).lt (Nat.not_le.mpr (hP 1 _ rfl).lt)))⟩ (hS.F ht2) hfe hS.2.2) hS.2.2 h1 h2
end RTH
theorem rA_new {r tx sz k : Nat} {ws : va_W} {a : Nat} {x : va_E} (hD : va_D (rA r tx sz) ws) {y z : va_E} (h0 : ws[0]? = some (r, y)) (h1 : ws[1]? = some (tx, z)) (hk : ws[k]? = some (a, x)) (hk2 : 2 ≤ k) : sz ≤ a := by
  rcases hD.2 k _ hk with h | h | h
  · have := hD.1 k 0 _ _ hk h0 h; omega
  · have := hD.1 k 1 _ _ hk h1 h; omega
  · exact h
theorem vd_4 {A : Nat → Prop} {a b c d : Nat} {x y z w : va_E} (h1 : a ≠ b) (h2 : a ≠ c) (h3 : a ≠ d) (h4 : b ≠ c) (h5 : b ≠ d) (h6 : c ≠ d) (g1 : A a) (g2 : A b) (g3 : A c) (g4 : A d) : va_D A [(a, x), (b, y), (c, z), (d, w)] := by
  refine ⟨fun i j p q hi hj he => ?_, fun k q hk => ?_⟩
  · match i, j, hi, hj with
    | 0, 0, _, _ => rfl
    | 1, 1, _, _ => rfl
    | 2, 2, _, _ => rfl
    | 3, 3, _, _ => rfl
    | 0, 1, hi, hj => cases hi; cases hj; exact absurd he h1
    | 1, 0, hi, hj => cases hi; cases hj; exact absurd he.symm h1
    | 0, 2, hi, hj => cases hi; cases hj; exact absurd he h2
    | 2, 0, hi, hj => cases hi; cases hj; exact absurd he.symm h2
    | 0, 3, hi, hj => cases hi; cases hj; exact absurd he h3
    | 3, 0, hi, hj => cases hi; cases hj; exact absurd he.symm h3
    | 1, 2, hi, hj => cases hi; cases hj; exact absurd he h4
    | 2, 1, hi, hj => cases hi; cases hj; exact absurd he.symm h4
    | 1, 3, hi, hj => cases hi; cases hj; exact absurd he h5
    | 3, 1, hi, hj => cases hi; cases hj; exact absurd he.symm h5
    | 2, 3, hi, hj => cases hi; cases hj; exact absurd he h6
    | 3, 2, hi, hj => cases hi; cases hj; exact absurd he.symm h6
  · match k, hk with
    | 0, hk => cases hk; exact g1
    | 1, hk => cases hk; exact g2
    | 2, hk => cases hk; exact g3
    | 3, hk => cases hk; exact g4
theorem let_byte {x : Int32} (h1 : 97 ≤ x) (h2 : x ≤ 122) : (x.toUInt32 % 65536).toInt32 = x ∧ ¬ 255 < x ∧ x.toInt8.toInt32 = x ∧ fits .byte (.int x) = true := by
  obtain ⟨k, k1, k2, rfl⟩ := i32_of (lo := 97) (hi := 122) (by decide) (by decide) h1 h2
  rcases (show k = 97 ∨ k = 98 ∨ k = 99 ∨ k = 100 ∨ k = 101 ∨ k = 102 ∨ k = 103 ∨ k = 104 ∨ k = 105 ∨ k = 106 ∨ k = 107 ∨ k = 108 ∨ k = 109 ∨ k = 110 ∨ k = 111 ∨ k = 112 ∨ k = 113 ∨ k = 114 ∨ k = 115 ∨ k = 116 ∨ k = 117 ∨ k = 118 ∨ k = 119 ∨ k = 120 ∨ k = 121 ∨ k = 122 by omega) with h | h | h | h | h | h | h | h | h | h | h | h | h | h | h | h | h | h | h | h | h | h | h | h | h | h <;> subst h <;> decide
theorem app_byte {b : List Int32} {f : Nat → Int32} {x : Int32} (hf : ∀ j, j < b.length → f j = b.getD j 0 ∧ fits .byte (.int (f j)) = true) (e3 : x.toInt8.toInt32 = x) (e4 : fits .byte (.int x) = true) : ∀ j, j < (b ++ [x]).length → sbA f b.length x j = (b ++ [x]).getD j 0 ∧ fits .byte (.int (sbA f b.length x j)) = true := by
  intro j hj
  unfold sbA
  by_cases e : j = b.length
  · subst e
    rw [if_pos rfl, e3]
    exact ⟨by simp, e4⟩
  · have hj2 : j < b.length := by simp at hj; omega
    rw [if_neg e]
    have := hf j hj2
    refine ⟨?_, this.2⟩
    rw [this.1, List.getD_eq_getElem?_getD, List.getD_eq_getElem?_getD, List.getElem?_append_left hj2]
set_option maxHeartbeats 4000000 in
theorem tX2_next (l : Launch) (D : va_G) (r tx cB NN : Nat) (tp : Nat → Int32) (n : Nat) (ρ : tR) (sz : Nat) (hn : n ≤ NN) (hN : NN < 2 ^ 31) (ha : ρ.1 ≤ n) (hne : r ≠ tx) : xMet l yX2_next (ws_ yX2_next cX2_next 2 none) { frames := 6, cells := 4, slots := 33, locals := 175 } (va_Pc [.ref r] (rdB D r tx cB NN tp n ρ sz)) (nxQ D r tx cB NN tp n sz (sNext tp n ρ) none) 4 33 (rA r tx sz) := by
  refine xg_entry (by decide) (Nat.le_of_ble_eq_true rfl) ?_
  intro p e s m args below meth c ls hx hb hml hown hts hlk hr0 hB hl hno
  obtain ⟨hsz, ⟨wv, hP, hw⟩, hK, hKc⟩ := hB
  subst hsz
  have hl : lv_has ls 2 [(0, .ref r)] := hl
  have hown : s.vm.findClass RX2 = some m.cls := hown
  have hP : va_P D vcl [(r, .inr (13, [.ref tx, .int (nI n), .int (nI ρ.1), .int (nI ρ.2.1), .int (nI ρ.2.2.1), wv, .int ρ.2.2.2.2.1, .int ρ.2.2.2.2.2])), (tx, .inl (cB, NN, .inl tp))] s.heap := hP
  have hrs : r < s.heap.size := (hP 0 _ rfl).lt
  have hts2 : tx < s.heap.size := (hP 1 _ rfl).lt
  have hD : va_D (rA r tx s.heap.size) [(r, .inr (13, [.ref tx, .int (nI n), .int (nI ρ.1), .int (nI ρ.2.1), .int (nI ρ.2.2.1), wv, .int ρ.2.2.2.2.1, .int ρ.2.2.2.2.2])), (tx, .inl (cB, NN, .inl tp))] := vd_2 hne (Or.inl rfl) (Or.inr (Or.inl rfl))
  have LA : ∀ (f a : Nat) (H : Heap) (locs : List Loc) (ls : Array Slot), a ≤ n → n < a + f → va_P D vcl [(r, .inr (13, [.ref tx, .int (nI n), .int (nI a), .int (nI ρ.2.1), .int (nI ρ.2.2.1), wv, .int ρ.2.2.2.2.1, .int ρ.2.2.2.2.2])), (tx, .inl (cB, NN, .inl tp))] H → va_D (rA r tx s.heap.size) [(r, .inr (13, [.ref tx, .int (nI n), .int (nI a), .int (nI ρ.2.1), .int (nI ρ.2.2.1), wv, .int ρ.2.2.2.2.1, .int ρ.2.2.2.2.2])), (tx, .inl (cB, NN, .inl tp))] → va_S (rA r tx s.heap.size) s.heap H locs → lv_has ls 2 [(0, .ref r)] →
      (∀ (H : Heap) (locs : List Loc) (ls : Array Slot), skp tp n f a ≤ n → va_P D vcl [(r, .inr (13, [.ref tx, .int (nI n), .int (nI (skp tp n f a)), .int (nI ρ.2.1), .int (nI ρ.2.2.1), wv, .int ρ.2.2.2.2.1, .int ρ.2.2.2.2.2])), (tx, .inl (cB, NN, .inl tp))] H → va_D (rA r tx s.heap.size) [(r, .inr (13, [.ref tx, .int (nI n), .int (nI (skp tp n f a)), .int (nI ρ.2.1), .int (nI ρ.2.2.1), wv, .int ρ.2.2.2.2.1, .int ρ.2.2.2.2.2])), (tx, .inl (cB, NN, .inl tp))] → va_S (rA r tx s.heap.size) s.heap H locs → lv_has ls 2 [(0, .ref r)] → W p l e { frames := 6, cells := 4, slots := 33, locals := 175 } s m args below meth c H locs 0 0 (xMQ below (nxQ D r tx cB NN tp n s.heap.size (sNext tp n ρ) none) args s 4 33 (rA r tx s.heap.size)) (F0 m 31 ls [])) → W p l e { frames := 6, cells := 4, slots := 33, locals := 175 } s m args below meth c H locs 0 0 (xMQ below (nxQ D r tx cB NN tp n s.heap.size (sNext tp n ρ) none) args s 4 33 (rA r tx s.heap.size)) (F0 m 0 ls []) := by
    intro f
    induction f with
    | zero => intro a H locs ls h1 h2; exact absurd h2 (by omega)
    | succ f ih =>
        intro a H locs ls h1 h2 hP hD hS hl K
        refine lv_aload_n hx hb dX2_next_0 rfl (lv_at hl 0 rfl) ?_
        refine r_call (W.runV (C := RX2) (As := []) (rest := []) ⟨hx, hb, hml, hown, hts⟩ (tX2_here l D r tx cB NN tp n (a, ρ.2.1, ρ.2.2.1, none, ρ.2.2.2.2.1, ρ.2.2.2.2.2) wv hn hN (by omega)) (cwV 0 hts (lw_V q256 q258 qs1 q73 q259) rfl rfl rfl (by decide +kernel) ⟨Nat.le_of_ble_eq_true rfl, Nat.le_of_ble_eq_true rfl⟩) ⟨hrB_blind, va_recv hK hP (ci := 13) (q0 := 0) rfl rfl, fun U hU hW => ⟨rfl, by rw [hU]; exact hP, va_K.moved hW.alike hK⟩⟩ rfl rfl hl.1 rfl (lv_room (Nat.le_of_ble_eq_true rfl)) dX2_next_1 ⟨Nat.zero_le _, Nat.zero_le _⟩) ?_
        show W _ _ _ _ _ _ _ _ _ _ _ _ _ _ _ (F0 m 4 ls (.int (hr tp n a) :: []))
        refine lv_bipush (v := 32) hx hb dX2_next_4 (by decide) ?_
        refine lv_icmp_eq (tgt := 18) hx hb dX2_next_6 (by decide) (fun c_1 => ?_) (fun c_1 => ?_)
        · have hlt : a < n := hr_lt (tp := tp) (by rw [c_1]; decide)
          rw [skp, if_pos (Or.inl c_1)] at K
          refine lv_aload_n hx hb dX2_next_18 rfl (lv_at hl 0 rfl) ?_
          refine lv_dup hx hb dX2_next_19 rfl ?_
          refine va_get hx hb hts in_X2 hown hK hP 0 rfl rfl 2 (by decide) (hts _ q221) (fun _ h9 => h9) rfl dX2_next_20 ?_
          refine lv_iconst (v := 1) hx hb dX2_next_23 (by decide) ?_
          refine lv_iadd hx hb dX2_next_24 ?_
          refine va_put (D := D) (ci := 13) (v := .int ((nI a) + 1)) (ty := tyX2 2) (C := RX2) (T := TX2) (N := 8) hx hb hts in_X2 tyX2 tyX2_ok nmX2 hown hK hP hD hS 0 rfl rfl 2 (by decide) (hts _ q221) (fun _ h9 => h9) rfl (by decide +kernel) (rfl) (rfl) (Nat.le_of_ble_eq_true rfl) dX2_next_25 (fun H locs hP hD hS => ?_)
          have hP : va_P D vcl [(r, .inr (13, [.ref tx, .int (nI n), .int ((nI a) + 1), .int (nI ρ.2.1), .int (nI ρ.2.2.1), wv, .int ρ.2.2.2.2.1, .int ρ.2.2.2.2.2])), (tx, .inl (cB, NN, .inl tp))] H := hP
          have hD : va_D (rA r tx s.heap.size) [(r, .inr (13, [.ref tx, .int (nI n), .int ((nI a) + 1), .int (nI ρ.2.1), .int (nI ρ.2.2.1), wv, .int ρ.2.2.2.2.1, .int ρ.2.2.2.2.2])), (tx, .inl (cB, NN, .inl tp))] := hD
          refine lv_goto (tgt := 0) hx hb dX2_next_28 (by decide) ?_
          rw [nI_1] at hP hD
          exact ih (a + 1) _ _ _ (by omega) (by omega) hP hD hS hl K
        · refine lv_aload_n hx hb dX2_next_9 rfl (lv_at hl 0 rfl) ?_
          refine r_call (W.runV (C := RX2) (As := []) (rest := []) ⟨hx, hb, hml, hown, hts⟩ (tX2_here l D r tx cB NN tp n (a, ρ.2.1, ρ.2.2.1, none, ρ.2.2.2.2.1, ρ.2.2.2.2.2) wv hn hN (by omega)) (cwV 0 hts (lw_V q256 q258 qs1 q73 q259) rfl rfl rfl (by decide +kernel) ⟨Nat.le_of_ble_eq_true rfl, Nat.le_of_ble_eq_true rfl⟩) ⟨hrB_blind, va_recv hK hP (ci := 13) (q0 := 0) rfl rfl, fun U hU hW => ⟨rfl, by rw [hU]; exact hP, va_K.moved hW.alike hK⟩⟩ rfl rfl hl.1 rfl (lv_room (Nat.le_of_ble_eq_true rfl)) dX2_next_10 ⟨Nat.zero_le _, Nat.zero_le _⟩) ?_
          show W _ _ _ _ _ _ _ _ _ _ _ _ _ _ _ (F0 m 13 ls (.int (hr tp n a) :: []))
          refine lv_bipush (v := 10) hx hb dX2_next_13 (by decide) ?_
          refine lv_icmp_ne (tgt := 31) hx hb dX2_next_15 (by decide) (fun c_2 => ?_) (fun c_2 => ?_)
          · rw [skp, if_neg (fun z => z.elim c_1 c_2)] at K
            exact K _ _ _ h1 hP hD hS hl
          · have hlt : a < n := hr_lt (tp := tp) (by rw [c_2]; decide)
            rw [skp, if_pos (Or.inr c_2)] at K
            refine lv_aload_n hx hb dX2_next_18 rfl (lv_at hl 0 rfl) ?_
            refine lv_dup hx hb dX2_next_19 rfl ?_
            refine va_get hx hb hts in_X2 hown hK hP 0 rfl rfl 2 (by decide) (hts _ q221) (fun _ h9 => h9) rfl dX2_next_20 ?_
            refine lv_iconst (v := 1) hx hb dX2_next_23 (by decide) ?_
            refine lv_iadd hx hb dX2_next_24 ?_
            refine va_put (D := D) (ci := 13) (v := .int ((nI a) + 1)) (ty := tyX2 2) (C := RX2) (T := TX2) (N := 8) hx hb hts in_X2 tyX2 tyX2_ok nmX2 hown hK hP hD hS 0 rfl rfl 2 (by decide) (hts _ q221) (fun _ h9 => h9) rfl (by decide +kernel) (rfl) (rfl) (Nat.le_of_ble_eq_true rfl) dX2_next_25 (fun H locs hP hD hS => ?_)
            have hP : va_P D vcl [(r, .inr (13, [.ref tx, .int (nI n), .int ((nI a) + 1), .int (nI ρ.2.1), .int (nI ρ.2.2.1), wv, .int ρ.2.2.2.2.1, .int ρ.2.2.2.2.2])), (tx, .inl (cB, NN, .inl tp))] H := hP
            have hD : va_D (rA r tx s.heap.size) [(r, .inr (13, [.ref tx, .int (nI n), .int ((nI a) + 1), .int (nI ρ.2.1), .int (nI ρ.2.2.1), wv, .int ρ.2.2.2.2.1, .int ρ.2.2.2.2.2])), (tx, .inl (cB, NN, .inl tp))] := hD
            refine lv_goto (tgt := 0) hx hb dX2_next_28 (by decide) ?_
            rw [nI_1] at hP hD
            exact ih (a + 1) _ _ _ (by omega) (by omega) hP hD hS hl K
  refine LA (n + 1) ρ.1 s.heap [] ls ha (by omega) hP hD va_S.rf hl (fun H locs ls hp0 hP hD hS hl => ?_)
  have hσ : sNext tp n ρ = sTok tp n ρ.2.2.1 (skp tp n (n + 1) ρ.1) := rfl
  rw [hσ]
  generalize skp tp n (n + 1) ρ.1 = p0 at hp0 hP hD ⊢
  refine lv_aload_n hx hb dX2_next_31 rfl (lv_at hl 0 rfl) ?_
  refine lv_aload_n hx hb dX2_next_32 rfl (lv_at hl 0 rfl) ?_
  refine va_get hx hb hts in_X2 hown hK hP 0 rfl rfl 2 (by decide) (hts _ q221) (fun _ h9 => h9) rfl dX2_next_33 ?_
  refine va_put (D := D) (ci := 13) (v := .int (nI p0)) (ty := tyX2 3) (C := RX2) (T := TX2) (N := 8) hx hb hts in_X2 tyX2 tyX2_ok nmX2 hown hK hP hD hS 0 rfl rfl 3 (by decide) (hts _ q222) (fun _ h9 => h9) rfl (by decide +kernel) (rfl) (rfl) (Nat.le_of_ble_eq_true rfl) dX2_next_36 (fun H locs hP hD hS => ?_)
  have hP : va_P D vcl [(r, .inr (13, [.ref tx, .int (nI n), .int (nI p0), .int (nI p0), .int (nI ρ.2.2.1), wv, .int ρ.2.2.2.2.1, .int ρ.2.2.2.2.2])), (tx, .inl (cB, NN, .inl tp))] H := hP
  have hD : va_D (rA r tx s.heap.size) [(r, .inr (13, [.ref tx, .int (nI n), .int (nI p0), .int (nI p0), .int (nI ρ.2.2.1), wv, .int ρ.2.2.2.2.1, .int ρ.2.2.2.2.2])), (tx, .inl (cB, NN, .inl tp))] := hD
  refine lv_aload_n hx hb dX2_next_39 rfl (lv_at hl 0 rfl) ?_
  refine lv_null hx hb dX2_next_40 ?_
  refine va_put (D := D) (ci := 13) (v := .null) (ty := tyX2 5) (C := RX2) (T := TX2) (N := 8) hx hb hts in_X2 tyX2 tyX2_ok nmX2 hown hK hP hD hS 0 rfl rfl 5 (by decide) (hts _ q224) (fun _ h9 => h9) rfl (by decide +kernel) (rfl) (rfl) (Nat.le_of_ble_eq_true rfl) dX2_next_41 (fun H locs hP hD hS => ?_)
  have hP : va_P D vcl [(r, .inr (13, [.ref tx, .int (nI n), .int (nI p0), .int (nI p0), .int (nI ρ.2.2.1), .null, .int ρ.2.2.2.2.1, .int ρ.2.2.2.2.2])), (tx, .inl (cB, NN, .inl tp))] H := hP
  have hD : va_D (rA r tx s.heap.size) [(r, .inr (13, [.ref tx, .int (nI n), .int (nI p0), .int (nI p0), .int (nI ρ.2.2.1), .null, .int ρ.2.2.2.2.1, .int ρ.2.2.2.2.2])), (tx, .inl (cB, NN, .inl tp))] := hD
  refine lv_aload_n hx hb dX2_next_44 rfl (lv_at hl 0 rfl) ?_
  refine lv_iconst (v := (-1)) hx hb dX2_next_45 (by decide) ?_
  refine va_put (D := D) (ci := 13) (v := .int (-1)) (ty := tyX2 6) (C := RX2) (T := TX2) (N := 8) hx hb hts in_X2 tyX2 tyX2_ok nmX2 hown hK hP hD hS 0 rfl rfl 6 (by decide) (hts _ q225) (fun _ h9 => h9) rfl (by decide +kernel) (rfl) (rfl) (Nat.le_of_ble_eq_true rfl) dX2_next_46 (fun H locs hP hD hS => ?_)
  have hP : va_P D vcl [(r, .inr (13, [.ref tx, .int (nI n), .int (nI p0), .int (nI p0), .int (nI ρ.2.2.1), .null, .int (-1), .int ρ.2.2.2.2.2])), (tx, .inl (cB, NN, .inl tp))] H := hP
  have hD : va_D (rA r tx s.heap.size) [(r, .inr (13, [.ref tx, .int (nI n), .int (nI p0), .int (nI p0), .int (nI ρ.2.2.1), .null, .int (-1), .int ρ.2.2.2.2.2])), (tx, .inl (cB, NN, .inl tp))] := hD
  refine lv_aload_n hx hb dX2_next_49 rfl (lv_at hl 0 rfl) ?_
  refine lv_iconst (v := (-1)) hx hb dX2_next_50 (by decide) ?_
  refine va_put (D := D) (ci := 13) (v := .int (-1)) (ty := tyX2 7) (C := RX2) (T := TX2) (N := 8) hx hb hts in_X2 tyX2 tyX2_ok nmX2 hown hK hP hD hS 0 rfl rfl 7 (by decide) (hts _ q226) (fun _ h9 => h9) rfl (by decide +kernel) (rfl) (rfl) (Nat.le_of_ble_eq_true rfl) dX2_next_51 (fun H locs hP hD hS => ?_)
  have hP : va_P D vcl [(r, .inr (13, [.ref tx, .int (nI n), .int (nI p0), .int (nI p0), .int (nI ρ.2.2.1), .null, .int (-1), .int (-1)])), (tx, .inl (cB, NN, .inl tp))] H := hP
  have hD : va_D (rA r tx s.heap.size) [(r, .inr (13, [.ref tx, .int (nI n), .int (nI p0), .int (nI p0), .int (nI ρ.2.2.1), .null, .int (-1), .int (-1)])), (tx, .inl (cB, NN, .inl tp))] := hD
  by_cases hlet : 97 ≤ hr tp n p0 ∧ hr tp n p0 ≤ 122
  · have hlt : p0 < n := hr_lt (tp := tp) (Int32.le_trans (by decide) hlet.1)
    have hσ : sTok tp n ρ.2.2.1 p0 = .inr ((wrd tp n (n + 1) [] p0).2, p0, ρ.2.2.1, some (wrd tp n (n + 1) [] p0).1, -1, -1) := by unfold sTok; rw [if_pos hlet]
    rw [hσ]
    refine lv_aload_n hx hb dX2_next_54 rfl (lv_at hl 0 rfl) ?_
    refine r_call (W.runV (C := RX2) (As := []) (rest := []) ⟨hx, hb, hml, hown, hts⟩ (tX2_here l D r tx cB NN tp n (p0, p0, ρ.2.2.1, none, (-1), (-1)) .null hn hN (by omega)) (cwV 0 hts (lw_V q256 q258 qs1 q73 q259) rfl rfl rfl (by decide +kernel) ⟨Nat.le_of_ble_eq_true rfl, Nat.le_of_ble_eq_true rfl⟩) ⟨hrB_blind, va_recv hK hP (ci := 13) (q0 := 0) rfl rfl, fun U hU hW => ⟨rfl, by rw [hU]; exact hP, va_K.moved hW.alike hK⟩⟩ rfl rfl hl.1 rfl (lv_room (Nat.le_of_ble_eq_true rfl)) dX2_next_55 ⟨Nat.zero_le _, Nat.zero_le _⟩) ?_
    show W _ _ _ _ _ _ _ _ _ _ _ _ _ _ _ (F0 m 58 ls (.int (hr tp n p0) :: []))
    refine lv_i2l hx hb dX2_next_58 rfl ?_
    refine lv_ldc2 (v := 97) hx hb hown (hts _ q260) dX2_next_59 ?_
    refine lv_ldc2 (v := 122) hx hb hown (hts _ q261) dX2_next_62 ?_
    refine rd_in ⟨hx, hb, hml, hown, hts⟩ hKc.1 ⟨Nat.le_of_ble_eq_true rfl, Nat.le_of_ble_eq_true rfl⟩ ⟨Nat.zero_le _, Nat.zero_le _⟩ hl.1 (Nat.le_of_ble_eq_true rfl) dX2_next_65 ?_
    rw [inV_let, if_pos hlet]
    refine lv_if_eq (tgt := 139) hx hb dX2_next_68 (by decide) (fun h9 => absurd h9 (by decide)) (fun _ => ?_)
    refine va_new (ci := 18) (fs := [.null, .int 0, .int 0, .int 0]) (C := RJ8) (T := TJ8) (N := 4) hx hb hts in_J8 tyJ8 tyJ8_ok hown (hts _ q265) (hts _ q266) (hts _ q75) hK hP hD hS (fun q h => Or.inr (Or.inr h)) rfl (fun j hj => by rcases (show j = 0 ∨ j = 1 ∨ j = 2 ∨ j = 3 by omega) with rfl | rfl | rfl | rfl <;> rfl) (Nat.le_of_ble_eq_true rfl) (Nat.le_of_ble_eq_true rfl) dX2_next_71 (fun sb H hP hD hS => ?_)
    have hP : va_P D vcl [(r, .inr (13, [.ref tx, .int (nI n), .int (nI p0), .int (nI p0), .int (nI ρ.2.2.1), .null, .int (-1), .int (-1)])), (tx, .inl (cB, NN, .inl tp)), (sb, .inr (18, [.null, .int 0, .int 0, .int 0]))] H := hP
    have hD : va_D (rA r tx s.heap.size) [(r, .inr (13, [.ref tx, .int (nI n), .int (nI p0), .int (nI p0), .int (nI ρ.2.2.1), .null, .int (-1), .int (-1)])), (tx, .inl (cB, NN, .inl tp)), (sb, .inr (18, [.null, .int 0, .int 0, .int 0]))] := hD
    have hsb : s.heap.size ≤ sb := rA_new hD rfl rfl (k := 2) rfl (by decide)
    have hsbl : sb < H.size := (hP 2 _ rfl).lt
    have hzz : s.heap.size ≤ H.size := hS.1
    refine lv_dup hx hb dX2_next_74 rfl ?_
    refine va_callv (A0 := rA r tx s.heap.size) (va_runI (As := []) (rest := [.ref sb]) ⟨hx, hb, hml, hown, hts⟩ (tJ8_init l D sb cB H.size hsbl) (cwI 0 hts (lw_meth q269) rfl rfl rfl (hts _ q75) (hts _ q267) (hts _ q268) rfl (by decide +kernel) ⟨Nat.le_of_ble_eq_true rfl, Nat.le_of_ble_eq_true rfl⟩) ⟨bi_blind, fun U hU hW => ⟨rfl, ⟨by rw [hU], by rw [hU]; exact hP.sub [2] rfl⟩, va_K.moved hW.alike hK, by rw [hU]; exact va_Z.moved hW.alike (va_Z.narrow (va_Z.kept hKc.2.1 hS.2.1) (fun q h => Or.inr (Or.inr (h.elim (fun z => by rw [z]; exact hsb) (fun z => Nat.le_trans hzz z)))))⟩⟩ rfl rfl hl.1 rfl (lv_room (Nat.le_of_ble_eq_true rfl)) dX2_next_75 ⟨Nat.le_of_ble_eq_true rfl, Nat.le_of_ble_eq_true rfl⟩) hS (fun q _ h => Or.inr (Or.inr (h.elim (fun z => by rw [z]; exact hsb) (fun z => Nat.le_trans hzz z)))) (fun q h => Or.inr (Or.inr (h.elim (fun z => by rw [z]; exact hsb) (fun z => Nat.le_trans hzz z)))) (fun bv t H1 locs1 ht hvm hp hB2 hz hkp hS => ?_)
    obtain ⟨hB3, hbv⟩ := hB2
    rw [ht] at hB3
    have hrl : r < s.heap.size := hrs
    have htl : tx < s.heap.size := hts2
    have hP : va_P D vcl [(r, .inr (13, [.ref tx, .int (nI n), .int (nI p0), .int (nI p0), .int (nI ρ.2.2.1), .null, .int (-1), .int (-1)])), (tx, .inl (cB, NN, .inl tp)), (sb, .inr (18, [.ref bv, .int 0, .int 0, .int (nI ([] : List Int32).length)])), (bv, .inl (cB, 16, .inl (fun _ => 0)))] H1 := fun k q hq => by
      match k, hq with
      | 0, hq => cases hq; exact (hP 0 _ rfl).kept (hkp _ (by show r < H.size; omega) (fun z => z.elim (fun z => absurd (show r = sb from z) (by omega)) (fun z => absurd (show H.size ≤ r from z) (by omega))))
      | 1, hq => cases hq; exact (hP 1 _ rfl).kept (hkp _ (by show tx < H.size; omega) (fun z => z.elim (fun z => absurd (show tx = sb from z) (by omega)) (fun z => absurd (show H.size ≤ tx from z) (by omega))))
      | 2, hq => cases hq; exact hB3 0 _ rfl
      | 3, hq => cases hq; exact hB3 1 _ rfl
    have hD : va_D (rA r tx s.heap.size) [(r, .inr (13, [.ref tx, .int (nI n), .int (nI p0), .int (nI p0), .int (nI ρ.2.2.1), .null, .int (-1), .int (-1)])), (tx, .inl (cB, NN, .inl tp)), (sb, .inr (18, [.ref bv, .int 0, .int 0, .int (nI ([] : List Int32).length)])), (bv, .inl (cB, 16, .inl (fun _ => 0)))] := vd_4 hne (by omega) (by omega) (by omega) (by omega) (by omega) (Or.inl rfl) (Or.inr (Or.inl rfl)) (Or.inr (Or.inr hsb)) (Or.inr (Or.inr (by omega)))
    generalize H1 = H at hP hS ⊢
    generalize locs1 = locs at hS ⊢
    refine lv_astore_n (lv' := [(1, .ref sb), (0, .ref r)]) hx hb dX2_next_78 rfl hl (by decide) rfl (fun ls hl => ?_)

    have LWd : ∀ (f0 : Nat) (b : List Int32) (f : Nat → Int32) (a : Nat) (H : Heap) (locs : List Loc) (ls : Array Slot), a ≤ n → n < a + f0 → b.length ≤ 9 → (∀ j, j < b.length → f j = b.getD j 0 ∧ fits .byte (.int (f j)) = true) → s.heap.size ≤ bv → va_P D vcl [(r, .inr (13, [.ref tx, .int (nI n), .int (nI a), .int (nI p0), .int (nI ρ.2.2.1), .null, .int (-1), .int (-1)])), (tx, .inl (cB, NN, .inl tp)), (sb, .inr (18, [.ref bv, .int 0, .int 0, .int (nI b.length)])), (bv, .inl (cB, 16, .inl f))] H → va_D (rA r tx s.heap.size) [(r, .inr (13, [.ref tx, .int (nI n), .int (nI a), .int (nI p0), .int (nI ρ.2.2.1), .null, .int (-1), .int (-1)])), (tx, .inl (cB, NN, .inl tp)), (sb, .inr (18, [.ref bv, .int 0, .int 0, .int (nI b.length)])), (bv, .inl (cB, 16, .inl f))] → va_S (rA r tx s.heap.size) s.heap H locs → lv_has ls 2 [(1, .ref sb), (0, .ref r)] →
        (∀ (b1 : List Int32) (f : Nat → Int32) (a1 : Nat) (H : Heap) (locs : List Loc) (ls : Array Slot), wrd tp n f0 b a = (b1, a1) → a1 ≤ n → b1.length ≤ 9 → (∀ j, j < b1.length → f j = b1.getD j 0 ∧ fits .byte (.int (f j)) = true) → va_P D vcl [(r, .inr (13, [.ref tx, .int (nI n), .int (nI a1), .int (nI p0), .int (nI ρ.2.2.1), .null, .int (-1), .int (-1)])), (tx, .inl (cB, NN, .inl tp)), (sb, .inr (18, [.ref bv, .int 0, .int 0, .int (nI b1.length)])), (bv, .inl (cB, 16, .inl f))] H → va_D (rA r tx s.heap.size) [(r, .inr (13, [.ref tx, .int (nI n), .int (nI a1), .int (nI p0), .int (nI ρ.2.2.1), .null, .int (-1), .int (-1)])), (tx, .inl (cB, NN, .inl tp)), (sb, .inr (18, [.ref bv, .int 0, .int 0, .int (nI b1.length)])), (bv, .inl (cB, 16, .inl f))] → va_S (rA r tx s.heap.size) s.heap H locs → lv_has ls 2 [(1, .ref sb), (0, .ref r)] → W p l e { frames := 6, cells := 4, slots := 33, locals := 175 } s m args below meth c H locs 2 20 (xMQ below (nxQ D r tx cB NN tp n s.heap.size (.inr ((wrd tp n (n + 1) [] p0).2, p0, ρ.2.2.1, some (wrd tp n (n + 1) [] p0).1, -1, -1)) none) args s 4 33 (rA r tx s.heap.size)) (F0 m 128 ls [])) → W p l e { frames := 6, cells := 4, slots := 33, locals := 175 } s m args below meth c H locs 2 20 (xMQ below (nxQ D r tx cB NN tp n s.heap.size (.inr ((wrd tp n (n + 1) [] p0).2, p0, ρ.2.2.1, some (wrd tp n (n + 1) [] p0).1, -1, -1)) none) args s 4 33 (rA r tx s.heap.size)) (F0 m 79 ls []) := by
      intro f0
      induction f0 with
      | zero => intro b f a H locs ls h1 h2; exact absurd h2 (by omega)
      | succ f0 ih =>
        intro b f a H locs ls h1 h2 h3 hfb hbvz hP hD hS hl K
        have hzH : s.heap.size ≤ H.size := hS.1
        have hBB : ∀ U : State, U.heap = H → s.WarmedH U.vm → bB D sb bv cB (nI b.length) f U := fun U hU hW => ⟨by rw [hU]; exact hP.sub [2, 3] rfl, va_K.moved hW.alike hK, by rw [hU]; exact va_Z.moved hW.alike (va_Z.narrow (va_Z.kept hKc.2.1 hS.2.1) (fun q h => h.elim)), hKc.1.2.2.2.warm hW⟩
        by_cases hd : 97 ≤ hr tp n a ∧ hr tp n a ≤ 122
        · have hlt : a < n := hr_lt (tp := tp) (Int32.le_trans (by decide) hd.1)
          rw [wrd, if_pos hd] at K
          refine lv_aload_n hx hb dX2_next_79 rfl (lv_at hl 1 rfl) ?_
          refine r_call (W.runV (C := RX2) (As := []) (rest := []) ⟨hx, hb, hml, hown, hts⟩ (tX2_here l D r tx cB NN tp n (a, p0, ρ.2.2.1, none, (-1), (-1)) .null hn hN (by omega)) (cwV 0 hts (lw_V q256 q258 qs1 q73 q259) rfl rfl rfl (by decide +kernel) ⟨Nat.le_of_ble_eq_true rfl, Nat.le_of_ble_eq_true rfl⟩) ⟨hrB_blind, va_recv hK hP (ci := 13) (q0 := 0) rfl rfl, fun U hU hW => ⟨rfl, by rw [hU]; exact (hP.sub [0, 1] rfl), va_K.moved hW.alike hK⟩⟩ rfl rfl hl.1 rfl (lv_room (Nat.le_of_ble_eq_true rfl)) dX2_next_80 ⟨Nat.le_of_ble_eq_true rfl, Nat.le_of_ble_eq_true rfl⟩) ?_
          show W _ _ _ _ _ _ _ _ _ _ _ _ _ _ _ (F0 m 83 ls (.int (hr tp n a) :: []))
          refine lv_i2l hx hb dX2_next_83 rfl ?_
          refine lv_ldc2 (v := 97) hx hb hown (hts _ q260) dX2_next_84 ?_
          refine lv_ldc2 (v := 122) hx hb hown (hts _ q261) dX2_next_87 ?_
          refine rd_in ⟨hx, hb, hml, hown, hts⟩ hKc.1 ⟨Nat.le_of_ble_eq_true rfl, Nat.le_of_ble_eq_true rfl⟩ ⟨Nat.le_of_ble_eq_true rfl, Nat.le_of_ble_eq_true rfl⟩ hl.1 (Nat.le_of_ble_eq_true rfl) dX2_next_90 ?_
          rw [inV_let, if_pos hd]
          refine lv_if_eq (tgt := 128) hx hb dX2_next_93 (by decide) (fun h9 => absurd h9 (by decide)) (fun _ => ?_)
          refine lv_aload_n hx hb dX2_next_96 rfl (lv_at hl 0 rfl) ?_
          refine r_call (W.runV (C := RJ8) (As := []) (rest := []) ⟨hx, hb, hml, hown, hts⟩ (tJ8_length l D sb bv cB (nI b.length) f) (cwV 0 hts (lw_V q295 q296 q297 q75 q298) rfl rfl rfl (by decide +kernel) ⟨Nat.le_of_ble_eq_true rfl, Nat.le_of_ble_eq_true rfl⟩) ⟨bB_blind, va_recv hK hP (ci := 18) (q0 := 2) rfl rfl, fun U hU hW => ⟨rfl, hBB U hU hW⟩⟩ rfl rfl hl.1 rfl (lv_room (Nat.le_of_ble_eq_true rfl)) dX2_next_97 ⟨Nat.le_of_ble_eq_true rfl, Nat.le_of_ble_eq_true rfl⟩) ?_
          show W _ _ _ _ _ _ _ _ _ _ _ _ _ _ _ (F0 m 100 ls (.int (nI b.length) :: []))
          refine lv_bipush (v := 9) hx hb dX2_next_100 (by decide) ?_
          refine lv_icmp_ge (tgt := 115) hx hb dX2_next_102 (by decide) (fun c_3 => ?_) (fun c_3 => ?_)
          · have hk : ¬ b.length < 9 := fun z => absurd (nI_lt (b := 9) z (by decide)) (Int32.not_lt.mpr c_3)
            rw [if_neg hk] at K
            refine lv_aload_n hx hb dX2_next_115 rfl (lv_at hl 1 rfl) ?_
            refine lv_dup hx hb dX2_next_116 rfl ?_
            refine va_get hx hb hts in_X2 hown hK hP 0 rfl rfl 2 (by decide) (hts _ q221) (fun _ h9 => h9) rfl dX2_next_117 ?_
            refine lv_iconst (v := 1) hx hb dX2_next_120 (by decide) ?_
            refine lv_iadd hx hb dX2_next_121 ?_
            refine va_put (D := D) (ci := 13) (v := .int ((nI a) + 1)) (ty := tyX2 2) (C := RX2) (T := TX2) (N := 8) hx hb hts in_X2 tyX2 tyX2_ok nmX2 hown hK hP hD hS 0 rfl rfl 2 (by decide) (hts _ q221) (fun _ h9 => h9) rfl (by decide +kernel) (rfl) (rfl) (Nat.le_of_ble_eq_true rfl) dX2_next_122 (fun H locs hP hD hS => ?_)
            have hP : va_P D vcl [(r, .inr (13, [.ref tx, .int (nI n), .int ((nI a) + 1), .int (nI p0), .int (nI ρ.2.2.1), .null, .int (-1), .int (-1)])), (tx, .inl (cB, NN, .inl tp)), (sb, .inr (18, [.ref bv, .int 0, .int 0, .int (nI b.length)])), (bv, .inl (cB, 16, .inl f))] H := hP
            have hD : va_D (rA r tx s.heap.size) [(r, .inr (13, [.ref tx, .int (nI n), .int ((nI a) + 1), .int (nI p0), .int (nI ρ.2.2.1), .null, .int (-1), .int (-1)])), (tx, .inl (cB, NN, .inl tp)), (sb, .inr (18, [.ref bv, .int 0, .int 0, .int (nI b.length)])), (bv, .inl (cB, 16, .inl f))] := hD
            refine lv_goto (tgt := 79) hx hb dX2_next_125 (by decide) ?_
            rw [nI_1] at hP hD
            exact ih b f (a + 1) _ _ _ (by omega) (by omega) h3 hfb hbvz hP hD hS hl K
          · have hk : b.length < 9 := Nat.not_le.mp fun z => c_3 (nI_le (a := 9) z (by omega))
            rw [if_pos hk] at K
            refine lv_aload_n hx hb dX2_next_105 rfl (lv_at hl 0 rfl) ?_
            refine lv_aload_n hx hb dX2_next_106 rfl (lv_at hl 1 rfl) ?_
            refine r_call (W.runV (C := RX2) (As := []) (rest := [.ref sb]) ⟨hx, hb, hml, hown, hts⟩ (tX2_here l D r tx cB NN tp n (a, p0, ρ.2.2.1, none, (-1), (-1)) .null hn hN (by omega)) (cwV 0 hts (lw_V q256 q258 qs1 q73 q259) rfl rfl rfl (by decide +kernel) ⟨Nat.le_of_ble_eq_true rfl, Nat.le_of_ble_eq_true rfl⟩) ⟨hrB_blind, va_recv hK hP (ci := 13) (q0 := 0) rfl rfl, fun U hU hW => ⟨rfl, by rw [hU]; exact (hP.sub [0, 1] rfl), va_K.moved hW.alike hK⟩⟩ rfl rfl hl.1 rfl (lv_room (Nat.le_of_ble_eq_true rfl)) dX2_next_107 ⟨Nat.le_of_ble_eq_true rfl, Nat.le_of_ble_eq_true rfl⟩) ?_
            show W _ _ _ _ _ _ _ _ _ _ _ _ _ _ _ (F0 m 110 ls (.int (hr tp n a) :: .ref sb :: []))
            refine lv_i2c hx hb dX2_next_110 rfl ?_
            obtain ⟨e1, e2, e3, e4⟩ := let_byte hd.1 hd.2
            rw [e1]
            have hne2 : sb ≠ bv := fun z => absurd (hD.1 2 3 _ _ rfl rfl z) (by decide)
            refine va_callr (A0 := rA r tx s.heap.size) (va_runV (C := RJ8) (As := [.int (hr tp n a)]) (rest := []) ⟨hx, hb, hml, hown, hts⟩ (tJ8_append l D sb bv cB b.length f (hr tp n a) (by omega) hne2 e2) (cwV 1 hts (lw_V q302 q303 q304 q75 q305) rfl rfl rfl (by decide +kernel) ⟨Nat.le_of_ble_eq_true rfl, Nat.le_of_ble_eq_true rfl⟩) ⟨bB_blind, va_recv hK hP (ci := 18) (q0 := 2) rfl rfl, fun U hU hW => ⟨rfl, hBB U hU hW⟩⟩ rfl rfl hl.1 rfl (lv_room (Nat.le_of_ble_eq_true rfl)) dX2_next_111 ⟨Nat.le_of_ble_eq_true rfl, Nat.le_of_ble_eq_true rfl⟩) hS (fun q _ h => Or.inr (Or.inr (h.elim (fun z => by rw [z]; exact hsb) (fun z => by rw [z]; exact hbvz)))) (fun q h => Or.inr (Or.inr (h.elim (fun z => by rw [z]; exact hsb) (fun z => by rw [z]; exact hbvz)))) (fun b0 a0 t H1 locs1 ht hvm hp hB2 hz hkp hS => ?_)
            obtain ⟨ea0, hP4⟩ := hB2
            rw [ht] at hP4
            rw [ea0]
            have el : nI (b.length + 1) = nI (b ++ [hr tp n a]).length := by simp
            rw [el] at hP4
            have hrl : r < s.heap.size := hrs
            have htl : tx < s.heap.size := hts2
            have hzz : s.heap.size ≤ H.size := hzH
            have hP : va_P D vcl [(r, .inr (13, [.ref tx, .int (nI n), .int (nI a), .int (nI p0), .int (nI ρ.2.2.1), .null, .int (-1), .int (-1)])), (tx, .inl (cB, NN, .inl tp)), (sb, .inr (18, [.ref bv, .int 0, .int 0, .int (nI (b ++ [hr tp n a]).length)])), (bv, .inl (cB, 16, .inl (sbA f b.length (hr tp n a))))] H1 := fun k q hq => by
              match k, hq with
              | 0, hq => cases hq; exact (hP 0 _ rfl).kept (hkp _ (by show r < H.size; omega) (fun z => z.elim (fun z => absurd (show r = sb from z) (by omega)) (fun z => absurd (show r = bv from z) (by omega))))
              | 1, hq => cases hq; exact (hP 1 _ rfl).kept (hkp _ (by show tx < H.size; omega) (fun z => z.elim (fun z => absurd (show tx = sb from z) (by omega)) (fun z => absurd (show tx = bv from z) (by omega))))
              | 2, hq => cases hq; exact hP4 0 _ rfl
              | 3, hq => cases hq; exact hP4 1 _ rfl
            have hD : va_D (rA r tx s.heap.size) [(r, .inr (13, [.ref tx, .int (nI n), .int (nI a), .int (nI p0), .int (nI ρ.2.2.1), .null, .int (-1), .int (-1)])), (tx, .inl (cB, NN, .inl tp)), (sb, .inr (18, [.ref bv, .int 0, .int 0, .int (nI (b ++ [hr tp n a]).length)])), (bv, .inl (cB, 16, .inl (sbA f b.length (hr tp n a))))] := vd_4 hne (by omega) (by omega) (by omega) (by omega) hne2 (Or.inl rfl) (Or.inr (Or.inl rfl)) (Or.inr (Or.inr hsb)) (Or.inr (Or.inr hbvz))
            refine lv_pop hx hb dX2_next_114 rfl ?_
            refine lv_aload_n hx hb dX2_next_115 rfl (lv_at hl 1 rfl) ?_
            refine lv_dup hx hb dX2_next_116 rfl ?_
            refine va_get hx hb hts in_X2 hown hK hP 0 rfl rfl 2 (by decide) (hts _ q221) (fun _ h9 => h9) rfl dX2_next_117 ?_
            refine lv_iconst (v := 1) hx hb dX2_next_120 (by decide) ?_
            refine lv_iadd hx hb dX2_next_121 ?_
            refine va_put (D := D) (ci := 13) (v := .int ((nI a) + 1)) (ty := tyX2 2) (C := RX2) (T := TX2) (N := 8) hx hb hts in_X2 tyX2 tyX2_ok nmX2 hown hK hP hD hS 0 rfl rfl 2 (by decide) (hts _ q221) (fun _ h9 => h9) rfl (by decide +kernel) (rfl) (rfl) (Nat.le_of_ble_eq_true rfl) dX2_next_122 (fun H locs hP hD hS => ?_)
            have hP : va_P D vcl [(r, .inr (13, [.ref tx, .int (nI n), .int ((nI a) + 1), .int (nI p0), .int (nI ρ.2.2.1), .null, .int (-1), .int (-1)])), (tx, .inl (cB, NN, .inl tp)), (sb, .inr (18, [.ref bv, .int 0, .int 0, .int (nI (b ++ [hr tp n a]).length)])), (bv, .inl (cB, 16, .inl (sbA f b.length (hr tp n a))))] H := hP
            have hD : va_D (rA r tx s.heap.size) [(r, .inr (13, [.ref tx, .int (nI n), .int ((nI a) + 1), .int (nI p0), .int (nI ρ.2.2.1), .null, .int (-1), .int (-1)])), (tx, .inl (cB, NN, .inl tp)), (sb, .inr (18, [.ref bv, .int 0, .int 0, .int (nI (b ++ [hr tp n a]).length)])), (bv, .inl (cB, 16, .inl (sbA f b.length (hr tp n a))))] := hD
            refine lv_goto (tgt := 79) hx hb dX2_next_125 (by decide) ?_
            rw [nI_1] at hP hD
            exact ih _ _ (a + 1) _ _ _ (by omega) (by omega) (by simp; omega) (app_byte hfb e3 e4) hbvz hP hD hS hl K
        · rw [wrd, if_neg hd] at K
          refine lv_aload_n hx hb dX2_next_79 rfl (lv_at hl 1 rfl) ?_
          refine r_call (W.runV (C := RX2) (As := []) (rest := []) ⟨hx, hb, hml, hown, hts⟩ (tX2_here l D r tx cB NN tp n (a, p0, ρ.2.2.1, none, (-1), (-1)) .null hn hN (by omega)) (cwV 0 hts (lw_V q256 q258 qs1 q73 q259) rfl rfl rfl (by decide +kernel) ⟨Nat.le_of_ble_eq_true rfl, Nat.le_of_ble_eq_true rfl⟩) ⟨hrB_blind, va_recv hK hP (ci := 13) (q0 := 0) rfl rfl, fun U hU hW => ⟨rfl, by rw [hU]; exact (hP.sub [0, 1] rfl), va_K.moved hW.alike hK⟩⟩ rfl rfl hl.1 rfl (lv_room (Nat.le_of_ble_eq_true rfl)) dX2_next_80 ⟨Nat.le_of_ble_eq_true rfl, Nat.le_of_ble_eq_true rfl⟩) ?_
          show W _ _ _ _ _ _ _ _ _ _ _ _ _ _ _ (F0 m 83 ls (.int (hr tp n a) :: []))
          refine lv_i2l hx hb dX2_next_83 rfl ?_
          refine lv_ldc2 (v := 97) hx hb hown (hts _ q260) dX2_next_84 ?_
          refine lv_ldc2 (v := 122) hx hb hown (hts _ q261) dX2_next_87 ?_
          refine rd_in ⟨hx, hb, hml, hown, hts⟩ hKc.1 ⟨Nat.le_of_ble_eq_true rfl, Nat.le_of_ble_eq_true rfl⟩ ⟨Nat.le_of_ble_eq_true rfl, Nat.le_of_ble_eq_true rfl⟩ hl.1 (Nat.le_of_ble_eq_true rfl) dX2_next_90 ?_
          rw [inV_let, if_neg hd]
          refine lv_if_eq (tgt := 128) hx hb dX2_next_93 (by decide) (fun _ => ?_) (fun h9 => absurd rfl h9)
          exact K b f a _ _ _ rfl h1 h3 hfb hP hD hS hl
    refine LWd (n + 1) [] (fun _ => 0) p0 _ _ _ hp0 (by omega) (by decide) (fun j hj => absurd hj (Nat.not_lt_zero _)) (by omega) hP hD hS hl (fun b f a H locs ls hw1 h1 h3 hfb hP hD hS hl => ?_)
    rw [hw1]
    have hzH : s.heap.size ≤ H.size := hS.1
    have hbvz : s.heap.size ≤ bv := by omega
    have hne2 : sb ≠ bv := fun z => absurd (hD.1 2 3 _ _ rfl rfl z) (by decide)
    refine lv_aload_n hx hb dX2_next_128 rfl (lv_at hl 1 rfl) ?_
    refine lv_aload_n hx hb dX2_next_129 rfl (lv_at hl 0 rfl) ?_
    refine va_callr (A0 := rA r tx s.heap.size) (va_runV (C := RJ8) (As := []) (rest := [.ref r]) ⟨hx, hb, hml, hown, hts⟩ (tJ8_toString l D sb bv cB H.size b.length f (by omega) (fun j hj => (hfb j hj).2)) (cwV 0 hts (lw_V q377 q378 q379 q75 q380) rfl rfl rfl (by decide +kernel) ⟨Nat.le_of_ble_eq_true rfl, Nat.le_of_ble_eq_true rfl⟩) ⟨ts_blind, va_recv hK hP (ci := 18) (q0 := 2) rfl rfl, fun U hU hW => ⟨rfl, ⟨by rw [hU], (hP 3 _ rfl).lt, (hP 2 _ rfl).lt, hne2⟩, by rw [hU]; exact hP.sub [2, 3] rfl, va_K.moved hW.alike hK, by rw [hU]; exact va_Z.moved hW.alike (va_Z.narrow (va_Z.kept hKc.2.1 hS.2.1) (fun q h => h.elim)), hKc.1.2.2.2.warm hW⟩⟩ rfl rfl hl.1 rfl (lv_room (Nat.le_of_ble_eq_true rfl)) dX2_next_130 ⟨Nat.le_of_ble_eq_true rfl, by show 20 + (b.length + 4) ≤ 33; omega⟩) hS (fun q _ h => Or.inr (Or.inr (h.elim (fun z => by rw [z]; exact hbvz) (fun z => Nat.le_trans hzH z)))) (fun q h => Or.inr (Or.inr (h.elim (fun z => by rw [z]; exact hbvz) (fun z => Nat.le_trans hzH z)))) (fun tv t t2 H1 locs1 ht hvm hp hB2 hz hkp hS => ?_)
    obtain ⟨hbt, hbtv, hntv, hP4⟩ := hB2
    rw [ht] at hP4
    have hrl : r < s.heap.size := hrs
    have htl : tx < s.heap.size := hts2
    have hP : va_P D vcl [(r, .inr (13, [.ref tx, .int (nI n), .int (nI a), .int (nI p0), .int (nI ρ.2.2.1), .null, .int (-1), .int (-1)])), (tx, .inl (cB, NN, .inl tp)), (t, .inr (19, [.ref tv, .int 0, .int 0, .int 0])), (tv, .inl (cB, b.length, .inl (va_cpy f (fun _ => 0) 0 0 b.length)))] H1 := fun k q hq => by
      match k, hq with
      | 0, hq => cases hq; exact (hP 0 _ rfl).kept (hkp _ (by show r < H.size; omega) (fun z => z.elim (fun z => absurd (show r = bv from z) (by omega)) (fun z => absurd (show H.size ≤ r from z) (by omega))))
      | 1, hq => cases hq; exact (hP 1 _ rfl).kept (hkp _ (by show tx < H.size; omega) (fun z => z.elim (fun z => absurd (show tx = bv from z) (by omega)) (fun z => absurd (show H.size ≤ tx from z) (by omega))))
      | 2, hq => cases hq; exact hP4 0 _ rfl
      | 3, hq => cases hq; exact hP4 1 _ rfl
    have hD : va_D (rA r tx s.heap.size) [(r, .inr (13, [.ref tx, .int (nI n), .int (nI a), .int (nI p0), .int (nI ρ.2.2.1), .null, .int (-1), .int (-1)])), (tx, .inl (cB, NN, .inl tp)), (t, .inr (19, [.ref tv, .int 0, .int 0, .int 0])), (tv, .inl (cB, b.length, .inl (va_cpy f (fun _ => 0) 0 0 b.length)))] := vd_4 hne (by omega) (by omega) (by omega) (by omega) hntv (Or.inl rfl) (Or.inr (Or.inl rfl)) (Or.inr (Or.inr (by omega))) (Or.inr (Or.inr (by omega)))

    refine va_put (D := D) (ci := 13) (v := .ref t) (ty := tyX2 5) (C := RX2) (T := TX2) (N := 8) hx hb hts in_X2 tyX2 tyX2_ok nmX2 hown hK hP hD hS 0 rfl rfl 5 (by decide) (hts _ q224) (fun _ h9 => h9) rfl (by decide +kernel) (rfl) (rfl) (Nat.le_of_ble_eq_true rfl) dX2_next_133 (fun H locs hP hD hS => ?_)
    have hP : va_P D vcl [(r, .inr (13, [.ref tx, .int (nI n), .int (nI a), .int (nI p0), .int (nI ρ.2.2.1), .ref t, .int (-1), .int (-1)])), (tx, .inl (cB, NN, .inl tp)), (t, .inr (19, [.ref tv, .int 0, .int 0, .int 0])), (tv, .inl (cB, b.length, .inl (va_cpy f (fun _ => 0) 0 0 b.length)))] H := hP
    have hD : va_D (rA r tx s.heap.size) [(r, .inr (13, [.ref tx, .int (nI n), .int (nI a), .int (nI p0), .int (nI ρ.2.2.1), .ref t, .int (-1), .int (-1)])), (tx, .inl (cB, NN, .inl tp)), (t, .inr (19, [.ref tv, .int 0, .int 0, .int 0])), (tv, .inl (cB, b.length, .inl (va_cpy f (fun _ => 0) 0 0 b.length)))] := hD
    refine lv_goto (tgt := 279) hx hb dX2_next_136 (by decide) ?_
    refine W.widen (k := 4) (n := 33) (Nat.le_of_ble_eq_true rfl) (by show 20 + (b.length + 4) ≤ 33; omega) ?_
    exact W.mono (fun t h => h.x) (W.vret hx hb hr0 (fun t2 ht2 hW => ⟨hS.F ht2, Or.inl ⟨_, rfl, rfl, .ref t, by rw [ht2]; exact hP.sub [0, 1] rfl, Or.inr ⟨b, t, rfl, h3, rfl, by rw [ht2]; exact (sS_of (A := fun q => q < s.heap.size) hts hK (k := b.length) (f := f) (hP.sub [2, 3] rfl) (fun z => absurd (show t < s.heap.size from z) (by omega)) (fun z => absurd (show tv < s.heap.size from z) (by omega)) rfl (fun j hj => (hfb j hj).1)).moved hW.alike⟩⟩⟩) hS.2.2 dX2_next_279 hlk)
  · by_cases hdig : 48 ≤ hr tp n p0 ∧ hr tp n p0 ≤ 57
    · have hlt : p0 < n := hr_lt (tp := tp) (Int32.le_trans (by decide) hdig.1)
      refine lv_aload_n hx hb dX2_next_54 rfl (lv_at hl 0 rfl) ?_
      refine r_call (W.runV (C := RX2) (As := []) (rest := []) ⟨hx, hb, hml, hown, hts⟩ (tX2_here l D r tx cB NN tp n (p0, p0, ρ.2.2.1, none, (-1), (-1)) .null hn hN (by omega)) (cwV 0 hts (lw_V q256 q258 qs1 q73 q259) rfl rfl rfl (by decide +kernel) ⟨Nat.le_of_ble_eq_true rfl, Nat.le_of_ble_eq_true rfl⟩) ⟨hrB_blind, va_recv hK hP (ci := 13) (q0 := 0) rfl rfl, fun U hU hW => ⟨rfl, by rw [hU]; exact hP, va_K.moved hW.alike hK⟩⟩ rfl rfl hl.1 rfl (lv_room (Nat.le_of_ble_eq_true rfl)) dX2_next_55 ⟨Nat.zero_le _, Nat.zero_le _⟩) ?_
      show W _ _ _ _ _ _ _ _ _ _ _ _ _ _ _ (F0 m 58 ls (.int (hr tp n p0) :: []))
      refine lv_i2l hx hb dX2_next_58 rfl ?_
      refine lv_ldc2 (v := 97) hx hb hown (hts _ q260) dX2_next_59 ?_
      refine lv_ldc2 (v := 122) hx hb hown (hts _ q261) dX2_next_62 ?_
      refine rd_in ⟨hx, hb, hml, hown, hts⟩ hKc.1 ⟨Nat.le_of_ble_eq_true rfl, Nat.le_of_ble_eq_true rfl⟩ ⟨Nat.zero_le _, Nat.zero_le _⟩ hl.1 (Nat.le_of_ble_eq_true rfl) dX2_next_65 ?_
      rw [inV_let, if_neg hlet]
      refine lv_if_eq (tgt := 139) hx hb dX2_next_68 (by decide) (fun _ => ?_) (fun h9 => absurd rfl h9)
      refine lv_aload_n hx hb dX2_next_139 rfl (lv_at hl 0 rfl) ?_
      refine r_call (W.runV (C := RX2) (As := []) (rest := []) ⟨hx, hb, hml, hown, hts⟩ (tX2_here l D r tx cB NN tp n (p0, p0, ρ.2.2.1, none, (-1), (-1)) .null hn hN (by omega)) (cwV 0 hts (lw_V q256 q258 qs1 q73 q259) rfl rfl rfl (by decide +kernel) ⟨Nat.le_of_ble_eq_true rfl, Nat.le_of_ble_eq_true rfl⟩) ⟨hrB_blind, va_recv hK hP (ci := 13) (q0 := 0) rfl rfl, fun U hU hW => ⟨rfl, by rw [hU]; exact hP, va_K.moved hW.alike hK⟩⟩ rfl rfl hl.1 rfl (lv_room (Nat.le_of_ble_eq_true rfl)) dX2_next_140 ⟨Nat.zero_le _, Nat.zero_le _⟩) ?_
      show W _ _ _ _ _ _ _ _ _ _ _ _ _ _ _ (F0 m 143 ls (.int (hr tp n p0) :: []))
      refine lv_i2l hx hb dX2_next_143 rfl ?_
      refine lv_ldc2 (v := 48) hx hb hown (hts _ q427) dX2_next_144 ?_
      refine lv_ldc2 (v := 57) hx hb hown (hts _ q428) dX2_next_147 ?_
      refine rd_in ⟨hx, hb, hml, hown, hts⟩ hKc.1 ⟨Nat.le_of_ble_eq_true rfl, Nat.le_of_ble_eq_true rfl⟩ ⟨Nat.zero_le _, Nat.zero_le _⟩ hl.1 (Nat.le_of_ble_eq_true rfl) dX2_next_150 ?_
      rw [inV_dig, if_pos hdig]
      refine lv_if_eq (tgt := 233) hx hb dX2_next_153 (by decide) (fun h9 => absurd h9 (by decide)) (fun _ => ?_)
      refine lv_iconst (v := 0) hx hb dX2_next_156 (by decide) ?_
      refine lv_istore_n (lv' := [(1, .int 0), (0, .ref r)]) hx hb dX2_next_157 rfl hl (by decide) rfl (fun ls hl => ?_)
      refine lv_aload_n hx hb dX2_next_158 rfl (lv_at hl 1 rfl) ?_
      refine lv_iconst (v := 0) hx hb dX2_next_159 (by decide) ?_
      refine va_put (D := D) (ci := 13) (v := .int 0) (ty := tyX2 6) (C := RX2) (T := TX2) (N := 8) hx hb hts in_X2 tyX2 tyX2_ok nmX2 hown hK hP hD hS 0 rfl rfl 6 (by decide) (hts _ q225) (fun _ h9 => h9) rfl (by decide +kernel) (rfl) (rfl) (Nat.le_of_ble_eq_true rfl) dX2_next_160 (fun H locs hP hD hS => ?_)
      have hP : va_P D vcl [(r, .inr (13, [.ref tx, .int (nI n), .int (nI p0), .int (nI p0), .int (nI ρ.2.2.1), .null, .int 0, .int (-1)])), (tx, .inl (cB, NN, .inl tp))] H := hP
      have hD : va_D (rA r tx s.heap.size) [(r, .inr (13, [.ref tx, .int (nI n), .int (nI p0), .int (nI p0), .int (nI ρ.2.2.1), .null, .int 0, .int (-1)])), (tx, .inl (cB, NN, .inl tp))] := hD
      have LDg : ∀ (f k : Nat) (v : Int32) (a : Nat) (H : Heap) (locs : List Loc) (ls : Array Slot), a ≤ n → n < a + f → k ≤ a → va_P D vcl [(r, .inr (13, [.ref tx, .int (nI n), .int (nI a), .int (nI p0), .int (nI ρ.2.2.1), .null, .int v, .int (-1)])), (tx, .inl (cB, NN, .inl tp))] H → va_D (rA r tx s.heap.size) [(r, .inr (13, [.ref tx, .int (nI n), .int (nI a), .int (nI p0), .int (nI ρ.2.2.1), .null, .int v, .int (-1)])), (tx, .inl (cB, NN, .inl tp))] → va_S (rA r tx s.heap.size) s.heap H locs → lv_has ls 2 [(1, .int (nI k)), (0, .ref r)] →
          (∀ (H : Heap) (locs : List Loc) (ls : Array Slot), (dig tp n f k v a).1 ≤ (dig tp n f k v a).2.2 → (dig tp n f k v a).2.2 ≤ n → va_P D vcl [(r, .inr (13, [.ref tx, .int (nI n), .int (nI (dig tp n f k v a).2.2), .int (nI p0), .int (nI ρ.2.2.1), .null, .int (dig tp n f k v a).2.1, .int (-1)])), (tx, .inl (cB, NN, .inl tp))] H → va_D (rA r tx s.heap.size) [(r, .inr (13, [.ref tx, .int (nI n), .int (nI (dig tp n f k v a).2.2), .int (nI p0), .int (nI ρ.2.2.1), .null, .int (dig tp n f k v a).2.1, .int (-1)])), (tx, .inl (cB, NN, .inl tp))] → va_S (rA r tx s.heap.size) s.heap H locs → lv_has ls 2 [(1, .int (nI (dig tp n f k v a).1)), (0, .ref r)] → W p l e { frames := 6, cells := 4, slots := 33, locals := 175 } s m args below meth c H locs 0 0 (xMQ below (nxQ D r tx cB NN tp n s.heap.size (sTok tp n ρ.2.2.1 p0) none) args s 4 33 (rA r tx s.heap.size)) (F0 m 220 ls [])) → W p l e { frames := 6, cells := 4, slots := 33, locals := 175 } s m args below meth c H locs 0 0 (xMQ below (nxQ D r tx cB NN tp n s.heap.size (sTok tp n ρ.2.2.1 p0) none) args s 4 33 (rA r tx s.heap.size)) (F0 m 163 ls []) := by
        intro f
        induction f with
        | zero => intro k v a H locs ls h1 h2; exact absurd h2 (by omega)
        | succ f ih =>
          intro k v a H locs ls h1 h2 h3 hP hD hS hl K
          by_cases hd : 48 ≤ hr tp n a ∧ hr tp n a ≤ 57
          · have hlt : a < n := hr_lt (tp := tp) (Int32.le_trans (by decide) hd.1)
            rw [dig, if_pos hd] at K
            refine lv_aload_n hx hb dX2_next_163 rfl (lv_at hl 1 rfl) ?_
            refine r_call (W.runV (C := RX2) (As := []) (rest := []) ⟨hx, hb, hml, hown, hts⟩ (tX2_here l D r tx cB NN tp n (a, p0, ρ.2.2.1, none, v, (-1)) .null hn hN (by omega)) (cwV 0 hts (lw_V q256 q258 qs1 q73 q259) rfl rfl rfl (by decide +kernel) ⟨Nat.le_of_ble_eq_true rfl, Nat.le_of_ble_eq_true rfl⟩) ⟨hrB_blind, va_recv hK hP (ci := 13) (q0 := 0) rfl rfl, fun U hU hW => ⟨rfl, by rw [hU]; exact hP, va_K.moved hW.alike hK⟩⟩ rfl rfl hl.1 rfl (lv_room (Nat.le_of_ble_eq_true rfl)) dX2_next_164 ⟨Nat.zero_le _, Nat.zero_le _⟩) ?_
            show W _ _ _ _ _ _ _ _ _ _ _ _ _ _ _ (F0 m 167 ls (.int (hr tp n a) :: []))
            refine lv_i2l hx hb dX2_next_167 rfl ?_
            refine lv_ldc2 (v := 48) hx hb hown (hts _ q427) dX2_next_168 ?_
            refine lv_ldc2 (v := 57) hx hb hown (hts _ q428) dX2_next_171 ?_
            refine rd_in ⟨hx, hb, hml, hown, hts⟩ hKc.1 ⟨Nat.le_of_ble_eq_true rfl, Nat.le_of_ble_eq_true rfl⟩ ⟨Nat.zero_le _, Nat.zero_le _⟩ hl.1 (Nat.le_of_ble_eq_true rfl) dX2_next_174 ?_
            rw [inV_dig, if_pos hd]
            refine lv_if_eq (tgt := 220) hx hb dX2_next_177 (by decide) (fun h9 => absurd h9 (by decide)) (fun _ => ?_)
            refine lv_iload_n hx hb dX2_next_180 rfl (lv_at hl 0 rfl) ?_
            refine lv_iconst (v := 4) hx hb dX2_next_181 (by decide) ?_
            refine lv_icmp_ge (tgt := 204) hx hb dX2_next_182 (by decide) (fun c_3 => ?_) (fun c_3 => ?_)
            · have hk : ¬ k < 4 := fun z => absurd (nI_lt (b := 4) z (by decide)) (Int32.not_lt.mpr c_3)
              rw [if_neg hk] at K
              refine lv_iinc (v := ((nI k) + 1)) (lv' := [(1, .int ((nI k) + 1)), (0, .ref r)]) hx hb dX2_next_204 hl (k := 0) rfl rfl (by decide) rfl (fun ls hl => ?_)
              refine lv_aload_n hx hb dX2_next_207 rfl (lv_at hl 1 rfl) ?_
              refine lv_dup hx hb dX2_next_208 rfl ?_
              refine va_get hx hb hts in_X2 hown hK hP 0 rfl rfl 2 (by decide) (hts _ q221) (fun _ h9 => h9) rfl dX2_next_209 ?_
              refine lv_iconst (v := 1) hx hb dX2_next_212 (by decide) ?_
              refine lv_iadd hx hb dX2_next_213 ?_
              refine va_put (D := D) (ci := 13) (v := .int ((nI a) + 1)) (ty := tyX2 2) (C := RX2) (T := TX2) (N := 8) hx hb hts in_X2 tyX2 tyX2_ok nmX2 hown hK hP hD hS 0 rfl rfl 2 (by decide) (hts _ q221) (fun _ h9 => h9) rfl (by decide +kernel) (rfl) (rfl) (Nat.le_of_ble_eq_true rfl) dX2_next_214 (fun H locs hP hD hS => ?_)
              have hP : va_P D vcl [(r, .inr (13, [.ref tx, .int (nI n), .int ((nI a) + 1), .int (nI p0), .int (nI ρ.2.2.1), .null, .int v, .int (-1)])), (tx, .inl (cB, NN, .inl tp))] H := hP
              have hD : va_D (rA r tx s.heap.size) [(r, .inr (13, [.ref tx, .int (nI n), .int ((nI a) + 1), .int (nI p0), .int (nI ρ.2.2.1), .null, .int v, .int (-1)])), (tx, .inl (cB, NN, .inl tp))] := hD
              refine lv_goto (tgt := 163) hx hb dX2_next_217 (by decide) ?_
              rw [nI_1] at hP hD hl
              exact ih (k + 1) v (a + 1) _ _ _ (by omega) (by omega) (by omega) hP hD hS hl K
            · have hk : k < 4 := Nat.not_le.mp fun z => c_3 (nI_le (a := 4) z (by omega))
              rw [if_pos hk] at K
              refine lv_aload_n hx hb dX2_next_185 rfl (lv_at hl 1 rfl) ?_
              refine lv_bipush (v := 10) hx hb dX2_next_186 (by decide) ?_
              refine lv_aload_n hx hb dX2_next_188 rfl (lv_at hl 1 rfl) ?_
              refine va_get hx hb hts in_X2 hown hK hP 0 rfl rfl 6 (by decide) (hts _ q225) (fun _ h9 => h9) rfl dX2_next_189 ?_
              refine lv_imul hx hb dX2_next_192 ?_
              refine lv_aload_n hx hb dX2_next_193 rfl (lv_at hl 1 rfl) ?_
              refine r_call (W.runV (C := RX2) (As := []) (rest := [.int (10 * v), .ref r]) ⟨hx, hb, hml, hown, hts⟩ (tX2_here l D r tx cB NN tp n (a, p0, ρ.2.2.1, none, v, (-1)) .null hn hN (by omega)) (cwV 0 hts (lw_V q256 q258 qs1 q73 q259) rfl rfl rfl (by decide +kernel) ⟨Nat.le_of_ble_eq_true rfl, Nat.le_of_ble_eq_true rfl⟩) ⟨hrB_blind, va_recv hK hP (ci := 13) (q0 := 0) rfl rfl, fun U hU hW => ⟨rfl, by rw [hU]; exact hP, va_K.moved hW.alike hK⟩⟩ rfl rfl hl.1 rfl (lv_room (Nat.le_of_ble_eq_true rfl)) dX2_next_194 ⟨Nat.zero_le _, Nat.zero_le _⟩) ?_
              show W _ _ _ _ _ _ _ _ _ _ _ _ _ _ _ (F0 m 197 ls (.int (hr tp n a) :: .int (10 * v) :: .ref r :: []))
              refine lv_iadd hx hb dX2_next_197 ?_
              refine lv_bipush (v := 48) hx hb dX2_next_198 (by decide) ?_
              refine lv_isub hx hb dX2_next_200 ?_
              refine va_put (D := D) (ci := 13) (v := .int (((10 * v) + (hr tp n a)) - 48)) (ty := tyX2 6) (C := RX2) (T := TX2) (N := 8) hx hb hts in_X2 tyX2 tyX2_ok nmX2 hown hK hP hD hS 0 rfl rfl 6 (by decide) (hts _ q225) (fun _ h9 => h9) rfl (by decide +kernel) (rfl) (rfl) (Nat.le_of_ble_eq_true rfl) dX2_next_201 (fun H locs hP hD hS => ?_)
              have hP : va_P D vcl [(r, .inr (13, [.ref tx, .int (nI n), .int (nI a), .int (nI p0), .int (nI ρ.2.2.1), .null, .int (((10 * v) + (hr tp n a)) - 48), .int (-1)])), (tx, .inl (cB, NN, .inl tp))] H := hP
              have hD : va_D (rA r tx s.heap.size) [(r, .inr (13, [.ref tx, .int (nI n), .int (nI a), .int (nI p0), .int (nI ρ.2.2.1), .null, .int (((10 * v) + (hr tp n a)) - 48), .int (-1)])), (tx, .inl (cB, NN, .inl tp))] := hD
              refine lv_iinc (v := ((nI k) + 1)) (lv' := [(1, .int ((nI k) + 1)), (0, .ref r)]) hx hb dX2_next_204 hl (k := 0) rfl rfl (by decide) rfl (fun ls hl => ?_)
              refine lv_aload_n hx hb dX2_next_207 rfl (lv_at hl 1 rfl) ?_
              refine lv_dup hx hb dX2_next_208 rfl ?_
              refine va_get hx hb hts in_X2 hown hK hP 0 rfl rfl 2 (by decide) (hts _ q221) (fun _ h9 => h9) rfl dX2_next_209 ?_
              refine lv_iconst (v := 1) hx hb dX2_next_212 (by decide) ?_
              refine lv_iadd hx hb dX2_next_213 ?_
              refine va_put (D := D) (ci := 13) (v := .int ((nI a) + 1)) (ty := tyX2 2) (C := RX2) (T := TX2) (N := 8) hx hb hts in_X2 tyX2 tyX2_ok nmX2 hown hK hP hD hS 0 rfl rfl 2 (by decide) (hts _ q221) (fun _ h9 => h9) rfl (by decide +kernel) (rfl) (rfl) (Nat.le_of_ble_eq_true rfl) dX2_next_214 (fun H locs hP hD hS => ?_)
              have hP : va_P D vcl [(r, .inr (13, [.ref tx, .int (nI n), .int ((nI a) + 1), .int (nI p0), .int (nI ρ.2.2.1), .null, .int (((10 * v) + (hr tp n a)) - 48), .int (-1)])), (tx, .inl (cB, NN, .inl tp))] H := hP
              have hD : va_D (rA r tx s.heap.size) [(r, .inr (13, [.ref tx, .int (nI n), .int ((nI a) + 1), .int (nI p0), .int (nI ρ.2.2.1), .null, .int (((10 * v) + (hr tp n a)) - 48), .int (-1)])), (tx, .inl (cB, NN, .inl tp))] := hD
              refine lv_goto (tgt := 163) hx hb dX2_next_217 (by decide) ?_
              rw [nI_1] at hP hD hl
              exact ih (k + 1) _ (a + 1) _ _ _ (by omega) (by omega) (by omega) hP hD hS hl K
          · rw [dig, if_neg hd] at K
            refine lv_aload_n hx hb dX2_next_163 rfl (lv_at hl 1 rfl) ?_
            refine r_call (W.runV (C := RX2) (As := []) (rest := []) ⟨hx, hb, hml, hown, hts⟩ (tX2_here l D r tx cB NN tp n (a, p0, ρ.2.2.1, none, v, (-1)) .null hn hN (by omega)) (cwV 0 hts (lw_V q256 q258 qs1 q73 q259) rfl rfl rfl (by decide +kernel) ⟨Nat.le_of_ble_eq_true rfl, Nat.le_of_ble_eq_true rfl⟩) ⟨hrB_blind, va_recv hK hP (ci := 13) (q0 := 0) rfl rfl, fun U hU hW => ⟨rfl, by rw [hU]; exact hP, va_K.moved hW.alike hK⟩⟩ rfl rfl hl.1 rfl (lv_room (Nat.le_of_ble_eq_true rfl)) dX2_next_164 ⟨Nat.zero_le _, Nat.zero_le _⟩) ?_
            show W _ _ _ _ _ _ _ _ _ _ _ _ _ _ _ (F0 m 167 ls (.int (hr tp n a) :: []))
            refine lv_i2l hx hb dX2_next_167 rfl ?_
            refine lv_ldc2 (v := 48) hx hb hown (hts _ q427) dX2_next_168 ?_
            refine lv_ldc2 (v := 57) hx hb hown (hts _ q428) dX2_next_171 ?_
            refine rd_in ⟨hx, hb, hml, hown, hts⟩ hKc.1 ⟨Nat.le_of_ble_eq_true rfl, Nat.le_of_ble_eq_true rfl⟩ ⟨Nat.zero_le _, Nat.zero_le _⟩ hl.1 (Nat.le_of_ble_eq_true rfl) dX2_next_174 ?_
            rw [inV_dig, if_neg hd]
            refine lv_if_eq (tgt := 220) hx hb dX2_next_177 (by decide) (fun _ => ?_) (fun h9 => absurd rfl h9)
            exact K _ _ _ h3 h1 hP hD hS hl
      refine LDg (n + 1) 0 0 p0 _ _ _ hp0 (by omega) (Nat.zero_le _) hP hD hS (by rw [nI_0]; exact hl) (fun H locs ls hk1 hk2 hP hD hS hl => ?_)
      have hσ : sTok tp n ρ.2.2.1 p0 = if 4 < (dig tp n (n + 1) 0 0 p0).1 then .inl p0 else .inr ((dig tp n (n + 1) 0 0 p0).2.2, p0, ρ.2.2.1, none, (dig tp n (n + 1) 0 0 p0).2.1, -1) := by unfold sTok; rw [if_neg hlet, if_pos hdig]
      rw [hσ]
      generalize dig tp n (n + 1) 0 0 p0 = dd at hk1 hk2 hP hD hl ⊢
      obtain ⟨k, v, a⟩ := dd
      simp only at hk1 hk2 hP hD hl ⊢

      refine lv_iload_n hx hb dX2_next_220 rfl (lv_at hl 0 rfl) ?_
      refine lv_iconst (v := 4) hx hb dX2_next_221 (by decide) ?_
      refine lv_icmp_le (tgt := 230) hx hb dX2_next_222 (by decide) (fun c_4 => ?_) (fun c_4 => ?_)
      · have hk : ¬ 4 < k := fun z => absurd (nI_lt (a := 4) z (by omega)) (Int32.not_lt.mpr c_4)
        rw [if_neg hk]
        refine lv_goto (tgt := 279) hx hb dX2_next_230 (by decide) ?_
        refine W.widen (k := 4) (n := 33) (Nat.le_of_ble_eq_true rfl) (Nat.le_of_ble_eq_true rfl) ?_
        exact W.mono (fun t h => h.x) (W.vret hx hb hr0 (fun t ht hW => ⟨hS.F ht, Or.inl ⟨_, rfl, rfl, .null, by rw [ht]; exact hP, Or.inl ⟨rfl, rfl⟩⟩⟩) hS.2.2 dX2_next_279 hlk)
      · have hk : 4 < k := Nat.not_le.mp fun z => c_4 (nI_le (b := 4) z (by decide))
        rw [if_pos hk]
        refine lv_aload_n hx hb dX2_next_225 rfl (lv_at hl 1 rfl) ?_
        exact rd_throw (ρ := (a, p0, ρ.2.2.1, none, v, -1)) (wv := .null) (A := rA r tx s.heap.size) hx hb hml hown hts hlk hno hK (hKc.2.2.1) hP hS (fun q h => Or.inr (Or.inr h)) ⟨Nat.le_of_ble_eq_true rfl, Nat.le_of_ble_eq_true rfl⟩ ⟨Nat.le_of_ble_eq_true rfl, Nat.le_of_ble_eq_true rfl⟩ (Nat.le_of_ble_eq_true rfl) (Nat.le_of_ble_eq_true rfl) hl.1 dX2_next_226 dX2_next_229 (fun t a L h1 h2 h3 h4 h5 => ⟨h3, Or.inr ⟨_, rfl, a, rfl, h1, h2⟩⟩)
    · have hσ : sTok tp n ρ.2.2.1 p0 = if p0 < n then (if ixf sgB (hr tp n p0).toInt8.toInt32 8 0 < 0 then .inl p0 else .inr (p0 + 1, p0, ρ.2.2.1, none, -1, hr tp n p0)) else .inr (p0, p0, ρ.2.2.1, none, -1, -1) := by unfold sTok; rw [if_neg hlet, if_neg hdig]
      rw [hσ]
      refine lv_aload_n hx hb dX2_next_54 rfl (lv_at hl 0 rfl) ?_
      refine r_call (W.runV (C := RX2) (As := []) (rest := []) ⟨hx, hb, hml, hown, hts⟩ (tX2_here l D r tx cB NN tp n (p0, p0, ρ.2.2.1, none, (-1), (-1)) .null hn hN (by omega)) (cwV 0 hts (lw_V q256 q258 qs1 q73 q259) rfl rfl rfl (by decide +kernel) ⟨Nat.le_of_ble_eq_true rfl, Nat.le_of_ble_eq_true rfl⟩) ⟨hrB_blind, va_recv hK hP (ci := 13) (q0 := 0) rfl rfl, fun U hU hW => ⟨rfl, by rw [hU]; exact hP, va_K.moved hW.alike hK⟩⟩ rfl rfl hl.1 rfl (lv_room (Nat.le_of_ble_eq_true rfl)) dX2_next_55 ⟨Nat.zero_le _, Nat.zero_le _⟩) ?_
      show W _ _ _ _ _ _ _ _ _ _ _ _ _ _ _ (F0 m 58 ls (.int (hr tp n p0) :: []))
      refine lv_i2l hx hb dX2_next_58 rfl ?_
      refine lv_ldc2 (v := 97) hx hb hown (hts _ q260) dX2_next_59 ?_
      refine lv_ldc2 (v := 122) hx hb hown (hts _ q261) dX2_next_62 ?_
      refine rd_in ⟨hx, hb, hml, hown, hts⟩ hKc.1 ⟨Nat.le_of_ble_eq_true rfl, Nat.le_of_ble_eq_true rfl⟩ ⟨Nat.zero_le _, Nat.zero_le _⟩ hl.1 (Nat.le_of_ble_eq_true rfl) dX2_next_65 ?_
      rw [inV_let, if_neg hlet]
      refine lv_if_eq (tgt := 139) hx hb dX2_next_68 (by decide) (fun _ => ?_) (fun h9 => absurd rfl h9)
      refine lv_aload_n hx hb dX2_next_139 rfl (lv_at hl 0 rfl) ?_
      refine r_call (W.runV (C := RX2) (As := []) (rest := []) ⟨hx, hb, hml, hown, hts⟩ (tX2_here l D r tx cB NN tp n (p0, p0, ρ.2.2.1, none, (-1), (-1)) .null hn hN (by omega)) (cwV 0 hts (lw_V q256 q258 qs1 q73 q259) rfl rfl rfl (by decide +kernel) ⟨Nat.le_of_ble_eq_true rfl, Nat.le_of_ble_eq_true rfl⟩) ⟨hrB_blind, va_recv hK hP (ci := 13) (q0 := 0) rfl rfl, fun U hU hW => ⟨rfl, by rw [hU]; exact hP, va_K.moved hW.alike hK⟩⟩ rfl rfl hl.1 rfl (lv_room (Nat.le_of_ble_eq_true rfl)) dX2_next_140 ⟨Nat.zero_le _, Nat.zero_le _⟩) ?_
      show W _ _ _ _ _ _ _ _ _ _ _ _ _ _ _ (F0 m 143 ls (.int (hr tp n p0) :: []))
      refine lv_i2l hx hb dX2_next_143 rfl ?_
      refine lv_ldc2 (v := 48) hx hb hown (hts _ q427) dX2_next_144 ?_
      refine lv_ldc2 (v := 57) hx hb hown (hts _ q428) dX2_next_147 ?_
      refine rd_in ⟨hx, hb, hml, hown, hts⟩ hKc.1 ⟨Nat.le_of_ble_eq_true rfl, Nat.le_of_ble_eq_true rfl⟩ ⟨Nat.zero_le _, Nat.zero_le _⟩ hl.1 (Nat.le_of_ble_eq_true rfl) dX2_next_150 ?_
      rw [inV_dig, if_neg hdig]
      refine lv_if_eq (tgt := 233) hx hb dX2_next_153 (by decide) (fun _ => ?_) (fun h9 => absurd rfl h9)
      refine lv_aload_n hx hb dX2_next_233 rfl (lv_at hl 0 rfl) ?_
      refine va_get hx hb hts in_X2 hown hK hP 0 rfl rfl 2 (by decide) (hts _ q221) (fun _ h9 => h9) rfl dX2_next_234 ?_
      refine lv_aload_n hx hb dX2_next_237 rfl (lv_at hl 0 rfl) ?_
      refine va_get hx hb hts in_X2 hown hK hP 0 rfl rfl 1 (by decide) (hts _ q220) (fun _ h9 => h9) rfl dX2_next_238 ?_
      refine lv_icmp_ge (tgt := 279) hx hb dX2_next_241 (by decide) (fun c_5 => ?_) (fun c_5 => ?_)
      · have hge : ¬ p0 < n := fun z => nI_ge z (by omega) c_5
        rw [if_neg hge]
        refine W.widen (k := 4) (n := 33) (Nat.le_of_ble_eq_true rfl) (Nat.le_of_ble_eq_true rfl) ?_
        exact W.mono (fun t h => h.x) (W.vret hx hb hr0 (fun t ht hW => ⟨hS.F ht, Or.inl ⟨_, rfl, rfl, .null, by rw [ht]; exact hP, Or.inl ⟨rfl, rfl⟩⟩⟩) hS.2.2 dX2_next_279 hlk)
      · have hlt : p0 < n := Nat.not_le.mp fun z => c_5 (nI_le z (by omega))
        have hrg := hr_rng (tp := tp) hlt
        rw [if_pos hlt]
        refine lv_aload_n hx hb dX2_next_244 rfl (lv_at hl 0 rfl) ?_
        refine lv_aload_n hx hb dX2_next_245 rfl (lv_at hl 0 rfl) ?_
        refine r_call (W.runV (C := RX2) (As := []) (rest := [.ref r]) ⟨hx, hb, hml, hown, hts⟩ (tX2_here l D r tx cB NN tp n (p0, p0, ρ.2.2.1, none, (-1), (-1)) .null hn hN (by omega)) (cwV 0 hts (lw_V q256 q258 qs1 q73 q259) rfl rfl rfl (by decide +kernel) ⟨Nat.le_of_ble_eq_true rfl, Nat.le_of_ble_eq_true rfl⟩) ⟨hrB_blind, va_recv hK hP (ci := 13) (q0 := 0) rfl rfl, fun U hU hW => ⟨rfl, by rw [hU]; exact hP, va_K.moved hW.alike hK⟩⟩ rfl rfl hl.1 rfl (lv_room (Nat.le_of_ble_eq_true rfl)) dX2_next_246 ⟨Nat.zero_le _, Nat.zero_le _⟩) ?_
        show W _ _ _ _ _ _ _ _ _ _ _ _ _ _ _ (F0 m 249 ls (.int (hr tp n p0) :: .ref r :: []))
        refine va_put (D := D) (ci := 13) (v := .int (hr tp n p0)) (ty := tyX2 7) (C := RX2) (T := TX2) (N := 8) hx hb hts in_X2 tyX2 tyX2_ok nmX2 hown hK hP hD hS 0 rfl rfl 7 (by decide) (hts _ q226) (fun _ h9 => h9) rfl (by decide +kernel) (rfl) (rfl) (Nat.le_of_ble_eq_true rfl) dX2_next_249 (fun H locs hP hD hS => ?_)
        have hP : va_P D vcl [(r, .inr (13, [.ref tx, .int (nI n), .int (nI p0), .int (nI p0), .int (nI ρ.2.2.1), .null, .int (-1), .int (hr tp n p0)])), (tx, .inl (cB, NN, .inl tp))] H := hP
        have hD : va_D (rA r tx s.heap.size) [(r, .inr (13, [.ref tx, .int (nI n), .int (nI p0), .int (nI p0), .int (nI ρ.2.2.1), .null, .int (-1), .int (hr tp n p0)])), (tx, .inl (cB, NN, .inl tp))] := hD
        obtain ⟨qs, hq1, hq2⟩ := hKc.2.2.2.1
        have hqs : sS qs sgB nA s H := (hq2.kept hS.2.1).narrow (fun q h => h.elim)
        refine va_ldcS hx hb hown hq1 dX2_next_252 ?_
        refine lv_aload_n hx hb dX2_next_254 rfl (lv_at hl 0 rfl) ?_
        refine va_get hx hb hts in_X2 hown hK hP 0 rfl rfl 7 (by decide) (hts _ q226) (fun _ h9 => h9) rfl dX2_next_255 ?_
        refine r_call (W.runV (C := RJ3) (As := [.int (hr tp n p0)]) (rest := []) ⟨hx, hb, hml, hown, hts⟩ (tJ3_indexOf l qs sgB (hr tp n p0) (by decide) (by decide) hrg.1 hrg.2) (cwV 1 hts (lw_V q503 q504 q505 q69 q506) rfl rfl rfl (by decide +kernel) ⟨Nat.le_of_ble_eq_true rfl, Nat.le_of_ble_eq_true rfl⟩) ⟨sB_blind, hqs.recv, fun U hU hW => ⟨rfl, by unfold sB; rw [hU]; exact ⟨va_Z.moved hW.alike (va_Z.narrow (va_Z.kept hKc.2.1 hS.2.1) (fun q h => h.elim)), hqs.moved hW.alike⟩⟩⟩ rfl rfl hl.1 rfl (lv_room (Nat.le_of_ble_eq_true rfl)) dX2_next_258 ⟨Nat.zero_le _, Nat.zero_le _⟩) ?_
        show W _ _ _ _ _ _ _ _ _ _ _ _ _ _ _ (F0 m 261 ls (.int (ixf sgB (hr tp n p0).toInt8.toInt32 8 0) :: []))
        refine lv_if_ge (tgt := 269) hx hb dX2_next_261 (by decide) (fun c_6 => ?_) (fun c_6 => ?_)
        · rw [if_neg (Int32.not_lt.mpr c_6)]
          refine lv_aload_n hx hb dX2_next_269 rfl (lv_at hl 0 rfl) ?_
          refine lv_dup hx hb dX2_next_270 rfl ?_
          refine va_get hx hb hts in_X2 hown hK hP 0 rfl rfl 2 (by decide) (hts _ q221) (fun _ h9 => h9) rfl dX2_next_271 ?_
          refine lv_iconst (v := 1) hx hb dX2_next_274 (by decide) ?_
          refine lv_iadd hx hb dX2_next_275 ?_
          refine va_put (D := D) (ci := 13) (v := .int ((nI p0) + 1)) (ty := tyX2 2) (C := RX2) (T := TX2) (N := 8) hx hb hts in_X2 tyX2 tyX2_ok nmX2 hown hK hP hD hS 0 rfl rfl 2 (by decide) (hts _ q221) (fun _ h9 => h9) rfl (by decide +kernel) (rfl) (rfl) (Nat.le_of_ble_eq_true rfl) dX2_next_276 (fun H locs hP hD hS => ?_)
          have hP : va_P D vcl [(r, .inr (13, [.ref tx, .int (nI n), .int ((nI p0) + 1), .int (nI p0), .int (nI ρ.2.2.1), .null, .int (-1), .int (hr tp n p0)])), (tx, .inl (cB, NN, .inl tp))] H := hP
          have hD : va_D (rA r tx s.heap.size) [(r, .inr (13, [.ref tx, .int (nI n), .int ((nI p0) + 1), .int (nI p0), .int (nI ρ.2.2.1), .null, .int (-1), .int (hr tp n p0)])), (tx, .inl (cB, NN, .inl tp))] := hD
          rw [nI_1] at hP
          refine W.widen (k := 4) (n := 33) (Nat.le_of_ble_eq_true rfl) (Nat.le_of_ble_eq_true rfl) ?_
          exact W.mono (fun t h => h.x) (W.vret hx hb hr0 (fun t ht hW => ⟨hS.F ht, Or.inl ⟨_, rfl, rfl, .null, by rw [ht]; exact hP, Or.inl ⟨rfl, rfl⟩⟩⟩) hS.2.2 dX2_next_279 hlk)
        · rw [if_pos (Int32.not_le.mp c_6)]
          refine lv_aload_n hx hb dX2_next_264 rfl (lv_at hl 0 rfl) ?_
          exact rd_throw (ρ := (p0, p0, ρ.2.2.1, none, -1, hr tp n p0)) (wv := .null) (A := rA r tx s.heap.size) hx hb hml hown hts hlk hno hK (hKc.2.2.1) hP hS (fun q h => Or.inr (Or.inr h)) ⟨Nat.le_of_ble_eq_true rfl, Nat.le_of_ble_eq_true rfl⟩ ⟨Nat.le_of_ble_eq_true rfl, Nat.le_of_ble_eq_true rfl⟩ (Nat.le_of_ble_eq_true rfl) (Nat.le_of_ble_eq_true rfl) hl.1 dX2_next_265 dX2_next_268 (fun t a L h1 h2 h3 h4 h5 => ⟨h3, Or.inr ⟨_, rfl, a, rfl, h1, h2⟩⟩)
