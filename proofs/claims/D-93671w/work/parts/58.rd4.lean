/-! ===== parse methods: contracts and rows; by gen/rd4.py ===== -/
set_option maxRecDepth 100000
def rInv (n : Nat) (ρ : tR) : Prop := ρ.2.1 ≤ ρ.1 ∧ ρ.1 ≤ n ∧ ((ρ.2.2.2.1 ≠ none ∨ ρ.2.2.2.2.1 ≠ -1 ∨ ρ.2.2.2.2.2 ≠ -1) → ρ.2.1 < ρ.1) ∧ (ρ.2.2.2.2.1 = -1 ∨ (0 ≤ ρ.2.2.2.2.1 ∧ ρ.2.2.2.2.1 ≤ 9999))
theorem i32_bm {x : Int} (h1 : -2147483648 ≤ x) (h2 : x < 2147483648) : x.bmod (2 ^ 32) = x := Int.bmod_eq_of_le (by omega) (by omega)
theorem i32_add {x y : Int32} (h1 : -2147483648 ≤ x.toInt + y.toInt) (h2 : x.toInt + y.toInt < 2147483648) : (x + y).toInt = x.toInt + y.toInt := by
  rw [Int32.toInt_add]
  exact i32_bm h1 h2
theorem i32_sub {x y : Int32} (h1 : -2147483648 ≤ x.toInt - y.toInt) (h2 : x.toInt - y.toInt < 2147483648) : (x - y).toInt = x.toInt - y.toInt := by
  rw [Int32.toInt_sub]
  exact i32_bm h1 h2
theorem i32_mul10 {v : Int32} (h0 : 0 ≤ v.toInt) (h1 : v.toInt ≤ 1000) : (10 * v).toInt = 10 * v.toInt := by
  rw [Int32.toInt_mul, show (10 : Int32).toInt = 10 from by decide]
  exact i32_bm (by omega) (by omega)
theorem skp_le {tp : Nat → Int32} {n : Nat} : ∀ (f a : Nat), a ≤ n → a ≤ skp tp n f a ∧ skp tp n f a ≤ n
  | 0, a, h => ⟨Nat.le_refl _, h⟩
  | f + 1, a, h => by
    unfold skp
    by_cases hc : hr tp n a = 32 ∨ hr tp n a = 10
    · rw [if_pos hc]
      have hlt : a < n := hr_lt (tp := tp) (by rcases hc with h | h <;> rw [h] <;> decide)
      have := skp_le (tp := tp) f (a + 1) hlt
      omega
    · rw [if_neg hc]
      exact ⟨Nat.le_refl _, h⟩
theorem wrd_le {tp : Nat → Int32} {n : Nat} : ∀ (f : Nat) (b : List Int32) (a : Nat), a ≤ n → b.length ≤ 9 → a ≤ (wrd tp n f b a).2 ∧ (wrd tp n f b a).2 ≤ n ∧ (wrd tp n f b a).1.length ≤ 9
  | 0, b, a, h, hb => ⟨Nat.le_refl _, h, hb⟩
  | f + 1, b, a, h, hb => by
    unfold wrd
    by_cases hc : 97 ≤ hr tp n a ∧ hr tp n a ≤ 122
    · rw [if_pos hc]
      have hlt : a < n := hr_lt (tp := tp) (Int32.le_trans (by decide) hc.1)
      have hl9 : (if b.length < 9 then b ++ [hr tp n a] else b).length ≤ 9 := by
        split
        · simp; omega
        · exact hb
      have := wrd_le (tp := tp) f (if b.length < 9 then b ++ [hr tp n a] else b) (a + 1) hlt hl9
      exact ⟨by omega, this.2.1, this.2.2⟩
    · rw [if_neg hc]
      exact ⟨Nat.le_refl _, h, hb⟩
def p10 (k : Nat) : Int := match k with
  | 0 => 1
  | 1 => 10
  | 2 => 100
  | 3 => 1000
  | _ => 10000
theorem dig_le {tp : Nat → Int32} {n : Nat} : ∀ (f k : Nat) (v : Int32) (a : Nat), a ≤ n → (k ≤ 4 → 0 ≤ v.toInt ∧ v.toInt < p10 k) → a ≤ (dig tp n f k v a).2.2 ∧ (dig tp n f k v a).2.2 ≤ n ∧ k ≤ (dig tp n f k v a).1 ∧ ((dig tp n f k v a).1 ≤ 4 → 0 ≤ (dig tp n f k v a).2.1.toInt ∧ (dig tp n f k v a).2.1.toInt < 10000)
  | 0, k, v, a, h, hv => ⟨Nat.le_refl _, h, Nat.le_refl _, fun hk => by
      have hv := hv hk
      refine ⟨hv.1, Int.lt_of_lt_of_le hv.2 ?_⟩
      rcases (show k = 0 ∨ k = 1 ∨ k = 2 ∨ k = 3 ∨ k = 4 by have : k ≤ 4 := hk; omega) with h | h | h | h | h <;> subst h <;> decide⟩
  | f + 1, k, v, a, h, hv => by
    unfold dig
    by_cases hc : 48 ≤ hr tp n a ∧ hr tp n a ≤ 57
    · rw [if_pos hc]
      have hlt : a < n := hr_lt (tp := tp) (Int32.le_trans (by decide) hc.1)
      have := dig_le (tp := tp) f (k + 1) (if k < 4 then 10 * v + hr tp n a - 48 else v) (a + 1) hlt (fun hk => by
        have hv := hv (by omega)
        rw [if_pos (by omega)]
        have c1 := Int32.le_iff_toInt_le.mp hc.1
        have c2 := Int32.le_iff_toInt_le.mp hc.2
        rw [show (48 : Int32).toInt = 48 from by decide] at c1
        rw [show (57 : Int32).toInt = 57 from by decide] at c2
        have hp : p10 (k + 1) = 10 * p10 k ∧ p10 k ≤ 1000 := by
          rcases (show k = 0 ∨ k = 1 ∨ k = 2 ∨ k = 3 by omega) with h | h | h | h <;> subst h <;> decide
        have e1 : (10 * v).toInt = 10 * v.toInt := i32_mul10 hv.1 (by omega)
        have e2 : (10 * v + hr tp n a).toInt = 10 * v.toInt + (hr tp n a).toInt := by rw [i32_add (by omega) (by omega), e1]
        have e3 : (10 * v + hr tp n a - 48).toInt = 10 * v.toInt + (hr tp n a).toInt - 48 := by rw [i32_sub (by rw [e2, show (48 : Int32).toInt = 48 from by decide]; omega) (by rw [e2, show (48 : Int32).toInt = 48 from by decide]; omega), e2, show (48 : Int32).toInt = 48 from by decide]
        rw [e3]
        omega)
      omega
    · rw [if_neg hc]
      refine ⟨Nat.le_refl _, h, Nat.le_refl _, fun hk => ?_⟩
      have hv := hv hk
      refine ⟨hv.1, Int.lt_of_lt_of_le hv.2 ?_⟩
      rcases (show k = 0 ∨ k = 1 ∨ k = 2 ∨ k = 3 ∨ k = 4 by have : k ≤ 4 := hk; omega) with h | h | h | h | h <;> subst h <;> decide
theorem sNext_inr {tp : Nat → Int32} {n : Nat} {ρ ρ' : tR} (ha : ρ.1 ≤ n) (h : sNext tp n ρ = .inr ρ') : ρ.1 ≤ ρ'.2.1 ∧ rInv n ρ' ∧ ρ'.2.2.1 = ρ.2.2.1 := by
  unfold sNext at h
  obtain ⟨k1, k2⟩ := skp_le (tp := tp) (n + 1) ρ.1 ha
  generalize skp tp n (n + 1) ρ.1 = p0 at h k1 k2
  unfold sTok at h
  by_cases h1 : 97 ≤ hr tp n p0 ∧ hr tp n p0 ≤ 122
  · rw [if_pos h1] at h
    have h := (Sum.inr.inj h).symm
    have hlt : p0 < n := hr_lt (tp := tp) (Int32.le_trans (by decide) h1.1)
    have e : wrd tp n (n + 1) [] p0 = wrd tp n n [hr tp n p0] (p0 + 1) := by rw [wrd, if_pos h1]; rfl
    have w := wrd_le (tp := tp) n [hr tp n p0] (p0 + 1) hlt (by simp)
    rw [← e] at w
    subst h
    exact ⟨k1, ⟨by show p0 ≤ _; omega, w.2.1, fun _ => by show p0 < _; omega, Or.inl rfl⟩, rfl⟩
  rw [if_neg h1] at h
  by_cases h2 : 48 ≤ hr tp n p0 ∧ hr tp n p0 ≤ 57
  · rw [if_pos h2] at h
    by_cases h4 : 4 < (dig tp n (n + 1) 0 0 p0).1
    · rw [if_pos h4] at h; cases h
    rw [if_neg h4] at h
    have h := (Sum.inr.inj h).symm
    have hlt : p0 < n := hr_lt (tp := tp) (Int32.le_trans (by decide) h2.1)
    have w0 := dig_le (tp := tp) (n := n) (n + 1) 0 0 p0 k2 (fun _ => by decide)
    have e : dig tp n (n + 1) 0 0 p0 = dig tp n n 1 (10 * 0 + hr tp n p0 - 48) (p0 + 1) := by rw [dig, if_pos h2]; rfl
    have w1 : p0 + 1 ≤ (dig tp n (n + 1) 0 0 p0).2.2 := by
      rw [e]
      exact (dig_le (tp := tp) n 1 _ (p0 + 1) hlt (fun _ => by
        have c1 := Int32.le_iff_toInt_le.mp h2.1
        have c2 := Int32.le_iff_toInt_le.mp h2.2
        rw [show (48 : Int32).toInt = 48 from by decide] at c1
        rw [show (57 : Int32).toInt = 57 from by decide] at c2
        have e0 : (10 * 0 + hr tp n p0 : Int32) = hr tp n p0 := by simp
        rw [e0, i32_sub (by rw [show (48 : Int32).toInt = 48 from by decide]; omega) (by rw [show (48 : Int32).toInt = 48 from by decide]; omega), show (48 : Int32).toInt = 48 from by decide]
        show 0 ≤ _ ∧ _ < (10 : Int)
        omega)).1
    have w2 := w0.2.2.2 (by omega)
    subst h
    refine ⟨k1, ⟨by show p0 ≤ _; omega, w0.2.1, fun _ => by show p0 < _; omega, Or.inr ⟨?_, ?_⟩⟩, rfl⟩
    · rw [Int32.le_iff_toInt_le, Int32.toInt_zero]; exact w2.1
    · rw [Int32.le_iff_toInt_le, show (9999 : Int32).toInt = 9999 from by decide]; have := w2.2; show (dig tp n (n + 1) 0 0 p0).2.1.toInt ≤ (9999 : Int); omega
  rw [if_neg h2] at h
  by_cases h3 : p0 < n
  · rw [if_pos h3] at h
    by_cases h5 : ixf sgB (hr tp n p0).toInt8.toInt32 8 0 < 0
    · rw [if_pos h5] at h; cases h
    rw [if_neg h5] at h
    have h := (Sum.inr.inj h).symm
    subst h
    exact ⟨k1, ⟨by show p0 ≤ p0 + 1; omega, by show p0 + 1 ≤ n; omega, fun _ => by show p0 < p0 + 1; omega, Or.inl rfl⟩, rfl⟩
  · rw [if_neg h3] at h
    have h := (Sum.inr.inj h).symm
    subst h
    exact ⟨k1, ⟨Nat.le_refl _, k2, fun z => by rcases z with z | z | z <;> exact absurd rfl z, Or.inl rfl⟩, rfl⟩
theorem sNext_inl {tp : Nat → Int32} {n : Nat} {ρ : tR} {pl : Nat} (ha : ρ.1 ≤ n) (h : sNext tp n ρ = .inl pl) : ρ.1 ≤ pl ∧ pl ≤ n := by
  unfold sNext at h
  obtain ⟨k1, k2⟩ := skp_le (tp := tp) (n + 1) ρ.1 ha
  generalize skp tp n (n + 1) ρ.1 = p0 at h k1 k2
  unfold sTok at h
  split at h
  · cases h
  split at h
  · split at h
    · cases h; exact ⟨k1, k2⟩
    · cases h
  split at h
  · split at h
    · cases h; exact ⟨k1, k2⟩
    · cases h
  · cases h
theorem sOpens_inr {tp : Nat → Int32} {n : Nat} {ρ ρ' : tR} (ha : ρ.1 ≤ n) (h : sOpens tp n ρ = .inr ρ') : ρ.1 ≤ ρ'.2.1 ∧ rInv n ρ' ∧ ρ'.2.2.1 = ρ.2.2.1 + 1 ∧ ρ.2.2.1 ≠ 5 := by
  unfold sOpens at h
  split at h
  · cases h
  · next h5 =>
    obtain ⟨a, b, c⟩ := sNext_inr (ρ := (ρ.1, ρ.2.1, ρ.2.2.1 + 1, ρ.2.2.2)) ha h
    exact ⟨a, b, c, h5⟩
theorem sOpens_inl {tp : Nat → Int32} {n : Nat} {ρ : tR} {pl : Nat} (hf : ρ.2.1 ≤ ρ.1) (ha : ρ.1 ≤ n) (h : sOpens tp n ρ = .inl pl) : (ρ.2.2.1 = 5 ∧ pl = ρ.2.1 ∨ ρ.1 ≤ pl) ∧ pl ≤ n := by
  unfold sOpens at h
  split at h
  · next h5 => cases h; exact ⟨Or.inl ⟨h5, rfl⟩, by omega⟩
  · obtain ⟨a, b⟩ := sNext_inl (ρ := (ρ.1, ρ.2.1, ρ.2.2.1 + 1, ρ.2.2.2)) ha h
    exact ⟨Or.inr a, b⟩
abbrev pRes : Type := Sum Nat (List Int32 × tR)
def nExt (N N1 : Nat → Option va_E) (sz : Nat) : Prop := (∀ q x, N q = some x → N1 q = some x) ∧ ∀ q, N q = none → N1 q ≠ none → sz ≤ q
theorem nExt.rf {N : Nat → Option va_E} {sz : Nat} : nExt N N sz := ⟨fun _ _ h => h, fun _ h1 h2 => absurd h1 h2⟩
theorem nExt.trans {N N1 N2 : Nat → Option va_E} {sz sz1 : Nat} (h : nExt N N1 sz) (h1 : nExt N1 N2 sz1) (hz : sz ≤ sz1) : nExt N N2 sz := by
  refine ⟨fun q x hq => h1.1 q x (h.1 q x hq), fun q g1 g2 => ?_⟩
  cases hc : N1 q with
  | none => exact Nat.le_trans hz (h1.2 q hc g2)
  | some x => exact h.2 q g1 (by rw [hc]; exact fun z => by cases z)
def nUp (N : Nat → Option va_E) (a : Nat) (x : va_E) : Nat → Option va_E := fun q => if q = a then some x else N q
theorem nExt.up {N : Nat → Option va_E} {a sz : Nat} {x : va_E} (h : N a = none) (ha : sz ≤ a) : nExt N (nUp N a x) sz := by
  refine ⟨fun q y hq => ?_, fun q g1 g2 => ?_⟩
  · unfold nUp
    by_cases e : q = a
    · subst e; rw [h] at hq; cases hq
    · rw [if_neg e]; exact hq
  · unfold nUp at g2
    by_cases e : q = a
    · subst e; exact ha
    · rw [if_neg e] at g2; exact absurd g1 g2
def pB (D : va_G) (r tx cB NN : Nat) (tp : Nat → Int32) (n : Nat) (ρ : tR) (Nn : Nat → Option va_E) (sz : Nat) (V : State) : Prop := rdB D r tx cB NN tp n ρ sz V ∧ nP D Nn r tx V.heap
theorem pB_blind {as : List Value} {D : va_G} {r tx cB NN : Nat} {tp : Nat → Int32} {n : Nat} {ρ : tR} {Nn : Nat → Option va_E} {sz : Nat} : FrameBlind (va_Pc as (pB D r tx cB NN tp n ρ Nn sz)) := fun a V g mk q => ⟨q.1, (rd_blind a V g mk ⟨q.1, q.2.1⟩).2, q.2.2⟩
def prQ (D : va_G) (r tx cB NN : Nat) (tp : Nat → Int32) (n sz : Nat) (ρ : tR) (Nn : Nat → Option va_E) (σ : pRes) : Array Value → State → Outcome → State → Prop := fun _ st o t => va_F (rA r tx sz) st t ∧
  ((∃ (c : List Int32) (ρ' : tR) (a : Nat) (N1 : Nat → Option va_E) (L : List Loc), σ = .inr (c, ρ') ∧ o = .returned (some (.ref a)) ∧ (ρ.2.1 < ρ'.2.1 ∧ rInv n ρ' ∧ ρ'.2.2.1 = ρ.2.2.1) ∧ rdE D r tx cB NN tp n (fun q => q < sz) ρ' t ∧ nP D N1 r tx t.heap ∧ nExt Nn N1 sz ∧ cTr N1 idA (ρ'.2.1 - ρ.2.1) a c ∧ xFE st t L (5 * (ρ'.2.1 - ρ.2.1)) (36 * (ρ'.2.1 - ρ.2.1)) ∧ ∀ q ∈ L, rA r tx sz q.base) ∨
   (∃ (pl : Nat) (a : Nat) (L : List Loc), σ = .inl pl ∧ o = .threw a ∧ (ρ.2.1 ≤ pl ∧ pl ≤ n) ∧ sz ≤ a ∧ flt D tx cB NN tp a pl t ∧ xFE st t L (5 * (pl - ρ.2.1) + 1) (36 * (pl - ρ.2.1) + 7) ∧ ∀ q ∈ L, rA r tx sz q.base))
section XNEW
variable {p : Program} {l : Launch} {e : Env} {R : Room} {s : State} {m : MethodId} {args : Array Value} {below : List Frame} {meth : Method} {H : Heap} {locs : List Loc} {cells slots : Nat} {Q : State → Prop} {cc : ByteArray} {pc : Nat} {ls : Array Slot} {rest : List Value} {D : va_G} {cl : List vw_C} {tys : List (ClassId × FieldType)}
/-- a new object: what was there stays -/
theorem x_new {c0 : Code} (hexec : p.tables.exec = Jvm.exec) (hb : c0.code = cc) {own C : String} {T : u_T} {N ci index : Nat} {Ts : List Cond} (hts : ∀ w ∈ Ts, w.before args s = true) (hin : ∀ w ∈ u_ws C T N, w ∈ Ts) (ty : Nat → FieldType) (hty : ∀ k, k < N → parseFieldDescriptor (T k).2.2.1 = some (ty k)) (hown : s.vm.findClass own = some m.cls) (hcl : (Cond.classLink own index C).before args s = true) (hinst : (Cond.instantiable C N).before args s = true) (hini : (Cond.initialized C).before args s = true)
    (hK : va_K D cl tys s) (hc : cl[ci]? = some (C, T, N)) {fs : List Value} (hfs : ∀ j, j < N → defaultValue (ty j) = vp_V fs j) (hcells : cells + 1 ≤ R.cells) (hslots : slots + N ≤ R.slots) (hdg : decode cc pc = .ok (.new index, 3))
    (kk : ∀ H1 : Heap, va_P D cl [(H.size, .inr (ci, fs))] H1 → H1.size = H.size + 1 → (∀ q : Nat, q < H.size → H1[q]? = H[q]?) →
      W p l e R s m args below meth c0 H1 locs (cells + 1) (slots + N) Q (F0 m (pc + 3) ls (.ref H.size :: rest))) : W p l e R s m args below meth c0 H locs cells slots Q (F0 m pc ls rest) := by
  have hKn := hK.1 ci _ hc
  refine W.newcK hexec hb hown hcl hinst hini rfl hdg hcells hslots hKn.2.1 rfl fun H1 kC hkC e1 z1 o1 => ?_
  refine kk H1 (fun k x hx => ?_) z1 o1
  have hz : k < 1 := (List.getElem?_eq_some_iff.mp hx).1
  rw [show k = 0 by omega] at hx
  cases hx
  exact ⟨_, hc, (u_born ty hts hin hKn hkC e1 hty).to hfs⟩
end XNEW
theorem sS.grow {t : Nat} {b : List Int32} {A : Nat → Prop} {U : State} {H : Heap} (h : sS t b A U H) : sS t b (fun q => A q ∨ q = H.size) U H := by
  obtain ⟨⟨c0, a1, a2, a3, a4⟩, ⟨cf, k, i, f, c1, b1, b2, b3, b4, b5, b6⟩, tv, ⟨cf', k', i', f', c2, d1, d2, d3, d4, d5, d6⟩, ⟨c3, e1, e2, e3, e4, e5, e6, e7⟩⟩ := h
  have n1 : ¬ (A t ∨ t = H.size) := fun z => z.elim a4 (fun z => by have h9 : t < H.size := (Array.getElem?_eq_some_iff.mp a1).1; have z : t = H.size := z; omega)
  have n2 : ¬ (A tv ∨ tv = H.size) := fun z => z.elim e7 (fun z => by have h9 : tv < H.size := (Array.getElem?_eq_some_iff.mp e1).1; have z : tv = H.size := z; rw [z] at h9; exact Nat.lt_irrefl _ h9)
  exact ⟨⟨c0, a1, a2, a3, n1⟩, ⟨cf, k, i, f, c1, b1, b2, b3, b4, b5, n1⟩, tv, ⟨cf', k', i', f', c2, d1, d2, d3, d4, d5, n1⟩, ⟨c3, e1, e2, e3, e4, e5, e6, n2⟩⟩
theorem rY.grow {D : va_G} {r tx cB NN : Nat} {tp : Nat → Int32} {n : Nat} {s : State} {E : Nat → Prop} {ρ : tR} {Nn : Nat → Option va_E} {H : Heap} {locs : List Loc} (Y : rY D r tx cB NN tp n s E ρ Nn H locs) : rY D r tx cB NN tp n s (fun q => E q ∨ q = H.size) ρ Nn H locs := by
  obtain ⟨⟨wv, hP, hw⟩, hS, hNn, hEr⟩ := Y
  refine ⟨⟨wv, hP, ?_⟩, hS, hNn, Or.inl hEr⟩
  rcases hw with h | ⟨b, t, h1, h2, h3, h4⟩
  · exact Or.inl h
  · exact Or.inr ⟨b, t, h1, h2, h3, h4.grow⟩
section RPR
variable {p : Program} {l : Launch} {e : Env} {R : Room} {s : State} {m : MethodId} {args : Array Value} {below : List Frame} {meth : Method} {c : Code} {H : Heap} {locs : List Loc} {cells slots MC MS : Nat} {Q : State → Prop} {Qc : Array Value → State → Outcome → State → Prop}
variable {cc : ByteArray} {nL pc : Nat} {ls : Array Slot} {st0 rest : List Value} {D : va_G} {r tx cB NN n : Nat} {tp : Nat → Int32} {E : Nat → Prop} {ρ : tR} {Nn : Nat → Option va_E}
theorem rp_pre (X : rX p s m args meth c cc nL D r tx cB NN n) (Y : rY D r tx cB NN tp n s E ρ Nn H locs) : PreV s H RX2 r (va_Pc [.ref r] (pB D r tx cB NN tp n ρ Nn H.size)) [] := by
  have h := rd_pre (as := []) X Y
  exact ⟨pB_blind, h.2.1, fun V hV hW => ⟨rfl, (h.2.2 V hV hW).2, by rw [hV]; exact Y.2.2.1⟩⟩
/-- behind a parse method -/
theorem rd_pr {σ : pRes} {as : Array Value} {mc ms : Nat} (X : rX p s m args meth c cc nL D r tx cB NN n) (Y : rY D r tx cB NN tp n s E ρ Nn H locs) (hr : xRun p l e R s m args below meth c H locs cells slots mc ms (F0 m pc ls st0) rest (prQ D r tx cB NN tp n H.size ρ Nn σ as) (rA r tx H.size)) (h1 : cells + (5 * (n - ρ.2.1) + 1) ≤ MC) (h2 : slots + (36 * (n - ρ.2.1) + 7) ≤ MS)
    (hq : ∀ (pl : Nat) (t : State) (a : Nat) (L : List Loc), σ = .inl pl → ρ.2.1 ≤ pl → pl ≤ n → s.heap.size ≤ a → flt D tx cB NN tp a pl t → va_F (rA r tx s.heap.size) s t → xFE s t L (cells + (5 * (pl - ρ.2.1) + 1)) (slots + (36 * (pl - ρ.2.1) + 7)) → (∀ q ∈ L, rA r tx s.heap.size q.base) → Qc args s (.threw a) t)
    (kr : ∀ (cd : List Int32) (ρ' : tR) (a : Nat) (N1 : Nat → Option va_E) (H1 : Heap) (locs1 : List Loc), σ = .inr (cd, ρ') → ρ.2.1 < ρ'.2.1 → rInv n ρ' → ρ'.2.2.1 = ρ.2.2.1 → rY D r tx cB NN tp n s (fun q => q < H.size) ρ' N1 H1 locs1 → nExt Nn N1 H.size → cTr N1 idA (ρ'.2.1 - ρ.2.1) a cd → H.size ≤ H1.size → (∀ q : Nat, q < H.size → q ≠ r → q ≠ tx → H1[q]? = H[q]?) → W p l e R s m args below meth c H1 locs1 (cells + 5 * (ρ'.2.1 - ρ.2.1)) (slots + 36 * (ρ'.2.1 - ρ.2.1)) (xMQ below Qc args s MC MS (rA r tx s.heap.size)) (F0 m (pc + 3) ls (.ref a :: rest))) :
    W p l e R s m args below meth c H locs cells slots (xMQ below Qc args s MC MS (rA r tx s.heap.size)) (F0 m pc ls st0) := by
  obtain ⟨hx, hb, hml, hown, hts, hlk, hno, hK, hKc, hne, hn, hN⟩ := X
  have hzz : s.heap.size ≤ H.size := Y.2.1.1
  have hsub : ∀ q, rA r tx H.size q → rA r tx s.heap.size q := fun q h => h.elim Or.inl (fun z => Or.inr (z.elim Or.inl (fun z => Or.inr (Nat.le_trans hzz z))))
  have hloc : ∀ L : List Loc, (∀ q ∈ L, rA r tx H.size q.base) → ∀ q ∈ locs ++ L, rA r tx s.heap.size q.base := fun L hL q hq => (List.mem_append.mp hq).elim (fun h => Y.2.1.2.2 q h) (fun h => hsub _ (hL q h))
  have hkp : ∀ st t : State, st.heap = H → va_F (rA r tx H.size) st t → H.size ≤ t.heap.size ∧ ∀ q : Nat, q < H.size → q ≠ r → q ≠ tx → t.heap[q]? = H[q]? := fun st t h0 hF => by
    have f1 := hF.1
    have f2 := hF.2
    rw [h0] at f1 f2
    exact ⟨f1, fun q g1 g2 g3 => f2 q g1 (fun z => z.elim g2 (fun z => z.elim g3 (fun z => Nat.not_le.mpr g1 z)))⟩
  intro T hT XX
  obtain ⟨o, st, t, T', g0, X', -, e1, e2, ⟨hF, hq2⟩, go⟩ := hr T hT XX
  obtain ⟨f1, f2⟩ := hkp st t g0 hF
  rcases hq2 with ⟨cd, ρ', a, N1, L, g1, g2, ⟨i1, i2, i3⟩, ⟨wv, g3, g4⟩, g5, g6, g7, hfe, hL⟩ | ⟨pl, a, L, g1, g2, ⟨i1, i2⟩, g3, g4, hfe, hL⟩
  · subst g2
    have hal : s.vm.Alike t.vm := by rw [← e2]; exact (X' L _ _ hfe).warmed.alike
    have Y0 : rY D r tx cB NN tp n s (fun q => q < H.size) ρ' Nn t.heap (locs ++ L) := Y.to f1 f2 (hloc L hL) ⟨wv, g3, g4.moved hal.symm⟩ (by obtain ⟨⟨w9, hP9, -⟩, -⟩ := Y; exact (hP9 0 _ rfl).lt)
    have Y1 : rY D r tx cB NN tp n s (fun q => q < H.size) ρ' N1 t.heap (locs ++ L) := ⟨Y0.1, Y0.2.1, g5, Y0.2.2.2⟩
    obtain ⟨t2, a1, b1⟩ := kr cd ρ' a N1 t.heap (locs ++ L) g1 i1 i2 i3 Y1 g6 g7 f1 f2 T' e1 (X' L _ _ hfe)
    exact ⟨t2, go t2 a1, b1⟩
  · subst g2
    have hS1 : va_S (rA r tx s.heap.size) s.heap t.heap (locs ++ L) := ⟨Nat.le_trans hzz f1, fun q w1 w2 => (f2 q (Nat.lt_of_lt_of_le w1 hzz) (fun z => w2 (Or.inl z)) (fun z => w2 (Or.inr (Or.inl z)))).trans (Y.2.1.2.1 q w1 w2), hloc L hL⟩
    have k : xW p l e R s m args below meth c t.heap (locs ++ L) (cells + (5 * (pl - ρ.2.1) + 1)) (slots + (36 * (pl - ρ.2.1) + 7)) (xMQ below Qc args s MC MS (rA r tx s.heap.size)) (F0 m pc ls rest) a := x_outE hno hlk (fun t2 ht2 hW hfe2 => hq pl t2 a _ g1 i1 i2 (Nat.le_trans hzz g3) (g4.at ht2) (hS1.F ht2) hfe2 hS1.2.2) hS1.2.2 (by omega) (by omega)
    obtain ⟨t2, a1, b1⟩ := k T' e1 (X' L _ _ hfe)
    exact ⟨t2, go t2 a1, b1⟩
/-- a node is returned -/
theorem rd_ret {ρ0 : tR} {N0 : Nat → Option va_E} {σ : pRes} {cd : List Int32} {a dd : Nat} (X : rX p s m args meth c cc nL D r tx cB NN n) (Y : rY D r tx cB NN tp n s E ρ Nn H locs) (hE : ∀ q, q < s.heap.size → E q) (hr0 : meth.sig.returnType = some (.object "GateRoad$Node")) (hσ : σ = .inr (cd, ρ)) (i1 : ρ0.2.1 < ρ.2.1) (i2 : rInv n ρ) (i3 : ρ.2.2.1 = ρ0.2.2.1) (hext : nExt N0 Nn s.heap.size) (hT : cTr Nn idA dd a cd) (hdd : dd ≤ ρ.2.1 - ρ0.2.1) (h1 : cells ≤ 5 * (ρ.2.1 - ρ0.2.1)) (h2 : slots ≤ 36 * (ρ.2.1 - ρ0.2.1)) (h3 : cells ≤ MC) (h4 : slots ≤ MS) (hdg : decode cc pc = .ok (.areturn, 1)) :
    W p l e R s m args below meth c H locs cells slots (xMQ below (prQ D r tx cB NN tp n s.heap.size ρ0 N0 σ) args s MC MS (rA r tx s.heap.size)) (F0 m pc ls [.ref a]) := by
  obtain ⟨hx, hb, hml, hown, hts, hlk, hno, hK, hKc, hne, hn, hN⟩ := X
  obtain ⟨⟨wv, hP, hw⟩, hS, hNn, hEr⟩ := Y
  exact xe_of (Qc0 := fun _ _ o t => o = .returned (some (.ref a)) ∧ t.heap = H ∧ s.WarmedH t.vm) (W.aret hx hb hr0 (Or.inl ⟨_, rfl⟩) (Or.inr ⟨_, rfl⟩) (fun t ht hW => ⟨rfl, ht, hW⟩) hS.2.2 hdg hlk)
    (fun o t L g1 g2 g3 => ⟨hS.F g1.2.1, Or.inl ⟨cd, ρ, a, Nn, L, hσ, g1.1, ⟨i1, i2, i3⟩, ⟨wv, by rw [g1.2.1]; exact hP, by rw [g1.2.1]; exact (hw.narrow hE).moved g1.2.2.alike⟩, by rw [g1.2.1]; exact hNn, hext, cTr_mono (fun _ _ h => h) _ _ _ _ hdd hT, g2.mono h1 h2, g3⟩⟩) h3 h4
/-- is: the word at hand against a constant -/
theorem rd_is {t : Nat} {b : List Int32} (X : rX p s m args meth c cc nL D r tx cB NN n) (Y : rY D r tx cB NN tp n s E ρ Nn H locs) (hs : sS t b (rA r tx s.heap.size) s s.heap) (hb0 : b.length < 2 ^ 31) (hR : 3 ≤ R.frames ∧ 66 ≤ R.locals) (hC : cells ≤ R.cells ∧ slots ≤ R.slots) (hls : ls.size = nL) (hst : (rest.map fun v => v.category).sum ≤ 8) (hdg : decode cc pc = .ok (.invokevirtual 116, 3)) (kk : W p l e R s m args below meth c H locs cells slots Q (F0 m (pc + 3) ls (.int (isV ρ.2.2.2.1 b) :: rest))) : W p l e R s m args below meth c H locs cells slots Q (F0 m pc ls (.ref t :: .ref r :: rest)) := by
  obtain ⟨hx, hb, hml, hown, hts, hlk, hno, hK, hKc, hne, hn, hN⟩ := X
  obtain ⟨⟨wv, hP, hw⟩, hS, hNn, hEr⟩ := Y
  have hs1 : sS t b nA s H := (hs.kept hS.2.1).narrow (fun q h => h.elim)
  refine r_call (W.runV (C := RX2) (As := [.ref t]) (rest := rest) ⟨hx, hb, hml, hown, hts⟩ (tX2_is l D r tx cB NN tp n ρ wv t b hb0) (cwV 1 hts (lw_V q558 q560 qs4 q73 q561) rfl rfl rfl (by decide +kernel) ⟨hR.1, Nat.le_trans (Nat.le_of_ble_eq_true rfl) hR.2⟩) ⟨isB_blind, va_recv hK hP (ci := 13) (q0 := 0) rfl rfl, fun U hU hW => ⟨rfl, ⟨by rw [hU]; exact hP, va_K.moved hW.alike hK⟩, by rw [hU]; exact (hw.narrow (fun q h => by rw [h]; exact hEr)).moved hW.alike, by rw [hU]; exact va_Z.moved hW.alike (va_Z.narrow (va_Z.kept hKc.2.1 hS.2.1) (fun q h => h.elim)), by rw [hU]; exact hs1.moved hW.alike⟩⟩ rfl rfl hls rfl (lv_room hst) hdg hC) ?_
  exact kk
/-- takes, when it doesn't -/
theorem rd_takesN {g : Int32} (X : rX p s m args meth c cc nL D r tx cB NN n) (Y : rY D r tx cB NN tp n s E ρ Nn H locs) (hg : ¬ ρ.2.2.2.2.2 = g) (hR : 1 ≤ R.frames ∧ 21 ≤ R.locals) (hC : cells ≤ R.cells ∧ slots ≤ R.slots) (hls : ls.size = nL) (hst : (rest.map fun v => v.category).sum ≤ 8) (hdg : decode cc pc = .ok (.invokevirtual 120, 3)) (kk : W p l e R s m args below meth c H locs cells slots Q (F0 m (pc + 3) ls (.int 0 :: rest))) : W p l e R s m args below meth c H locs cells slots Q (F0 m pc ls (.int g :: .ref r :: rest)) := by
  obtain ⟨hx, hb, hml, hown, hts, hlk, hno, hK, hKc, hne, hn, hN⟩ := X
  obtain ⟨⟨wv, hP, hw⟩, hS, hNn, hEr⟩ := Y
  refine r_call (W.runV (C := RX2) (As := [.int g]) (rest := rest) ⟨hx, hb, hml, hown, hts⟩ (tX2_takesN l D r tx cB NN tp n ρ wv g hg) (cwV 1 hts (lw_V q627 q629 qs12 q73 q630) rfl rfl rfl (by decide +kernel) ⟨hR.1, hR.2⟩) ⟨hrB_blind, va_recv hK hP (ci := 13) (q0 := 0) rfl rfl, fun U hU hW => ⟨rfl, by rw [hU]; exact hP, va_K.moved hW.alike hK⟩⟩ rfl rfl hls rfl (lv_room hst) hdg hC) ?_
  exact kk
theorem rd_newL (X : rX p s m args meth c cc nL D r tx cB NN n) (Y : rY D r tx cB NN tp n s E ρ Nn H locs) (hC : cells + 1 ≤ R.cells ∧ slots + 2 ≤ R.slots) (hdg : decode cc pc = .ok (.new 107, 3)) (kk : ∀ (a : Nat) (H1 : Heap), rY D r tx cB NN tp n s (fun q => E q ∨ q = a) ρ Nn H1 locs → va_P D vcl [(a, .inr (10, [.int 0, .int 0]))] H1 → H.size ≤ a → Nn a = none → a < H1.size → W p l e R s m args below meth c H1 locs (cells + 1) (slots + 2) Q (F0 m (pc + 3) ls (.ref a :: rest))) : W p l e R s m args below meth c H locs cells slots Q (F0 m pc ls rest) := by
  obtain ⟨hx, hb, hml, hown, hts, hlk, hno, hK, hKc, hne, hn, hN⟩ := X
  refine x_new (ci := 10) (fs := [.int 0, .int 0]) (C := RX5) (T := TX5) (N := 2) hx hb hts in_X5 tyX5 tyX5_ok hown (hts _ q612) (hts _ q613) (hts _ q86) hK rfl (fun j hj => by rcases (show j = 0 ∨ j = 1 by omega) with rfl | rfl <;> rfl) hC.1 hC.2 hdg (fun H1 hP hz ho => ?_)
  refine kk H.size H1 (((Y.grow).keep (by omega) ho Y.2.1.2.2)) hP (Nat.le_refl _) ?_ (by omega)
  cases hc : Nn H.size with
  | none => rfl
  | some x => exact absurd (Y.2.2.1 _ x hc).1.lt (Nat.lt_irrefl _)
theorem rd_initL {v nm : Int32} {a : Nat} (X : rX p s m args meth c cc nL D r tx cB NN n) (Y : rY D r tx cB NN tp n s E ρ Nn H locs) (hU : va_P D vcl [(a, .inr (10, [.int 0, .int 0]))] H) (haN : Nn a = none) (ha : s.heap.size ≤ a) (hEa : E a) (hrs : r < s.heap.size) (hts9 : tx < s.heap.size) (hR : 2 ≤ R.frames ∧ 35 ≤ R.locals) (hC : cells ≤ R.cells ∧ slots ≤ R.slots) (hls : ls.size = nL) (hst : (rest.map fun v => v.category).sum ≤ 8) (hdg : decode cc pc = .ok (.invokespecial 109, 3))
    (kk : ∀ (H1 : Heap) (locs1 : List Loc), rY D r tx cB NN tp n s E ρ (nUp Nn a (.inr (10, [.int v, .int nm]))) H1 locs1 → W p l e R s m args below meth c H1 locs1 cells slots Q (F0 m (pc + 3) ls rest)) : W p l e R s m args below meth c H locs cells slots Q (F0 m pc ls (.int nm :: .int v :: .ref a :: rest)) := by
  obtain ⟨hx, hb, hml, hown, hts, hlk, hno, hK, hKc, hne, hn, hN⟩ := X
  obtain ⟨⟨wv, hP, hw⟩, hS, hNn, hEr⟩ := id Y
  have hrl : r < H.size := (hP 0 _ rfl).lt
  have htl : tx < H.size := (hP 1 _ rfl).lt
  refine va_callv (A0 := rA r tx s.heap.size) (va_runI (As := [.int v, .int nm]) (rest := rest) ⟨hx, hb, hml, hown, hts⟩ (tX5_init l D a v nm) (cwI 2 hts (lw_meth q616) rfl rfl rfl (hts _ q86) (hts _ q614) (hts _ q615) rfl (by decide +kernel) ⟨hR.1, Nat.le_trans (Nat.le_of_ble_eq_true rfl) hR.2⟩) ⟨ni_blind, fun U hU2 hW => ⟨rfl, by rw [hU2]; exact hU, va_K.moved hW.alike (hK.sub [] rfl)⟩⟩ rfl rfl hls rfl (lv_room hst) hdg hC) hS (fun q _ h => Or.inr (Or.inr (by rw [show q = a from h]; exact ha))) (fun q h => Or.inr (Or.inr (by rw [show q = a from h]; exact ha))) (fun u t H1 locs1 ht hvm hp hB hz hkp hS1 => ?_)
  have hB1 : va_P D vcl [(a, .inr (10, [.int v, .int nm]))] H1 := by rw [← ht]; exact hB
  have hra : r ≠ a := fun z => by rw [← z] at ha; exact absurd hrs (Nat.not_lt.mpr ha)
  have hta : tx ≠ a := fun z => by rw [← z] at ha; exact absurd hts9 (Nat.not_lt.mpr ha)
  refine kk H1 locs1 ⟨⟨wv, fun k q hq => ?_, hw.kept (fun q g1 g2 => hkp q g1 (fun z => g2 (by rw [show q = a from z]; exact hEa)))⟩, hS1, fun b x hx9 => ?_, hEr⟩
  · match k, hq with
    | 0, hq => cases hq; exact (hP 0 _ rfl).kept (hkp _ hrl hra)
    | 1, hq => cases hq; exact (hP 1 _ rfl).kept (hkp _ htl hta)
  · unfold nUp at hx9
    by_cases e : b = a
    · subst e
      rw [if_pos rfl] at hx9
      cases hx9
      exact ⟨hB1 0 _ rfl, fun z => hra z.symm, fun z => hta z.symm⟩
    · rw [if_neg e] at hx9
      exact ⟨(hNn b x hx9).1.kept (hkp _ (hNn b x hx9).1.lt e), (hNn b x hx9).2⟩
theorem rd_newO (X : rX p s m args meth c cc nL D r tx cB NN n) (Y : rY D r tx cB NN tp n s E ρ Nn H locs) (hC : cells + 1 ≤ R.cells ∧ slots + 2 ≤ R.slots) (hdg : decode cc pc = .ok (.new 99, 3)) (kk : ∀ (a : Nat) (H1 : Heap), rY D r tx cB NN tp n s (fun q => E q ∨ q = a) ρ Nn H1 locs → va_P D vcl [(a, .inr (11, [.int 0, .null]))] H1 → H.size ≤ a → Nn a = none → a < H1.size → W p l e R s m args below meth c H1 locs (cells + 1) (slots + 2) Q (F0 m (pc + 3) ls (.ref a :: rest))) : W p l e R s m args below meth c H locs cells slots Q (F0 m pc ls rest) := by
  obtain ⟨hx, hb, hml, hown, hts, hlk, hno, hK, hKc, hne, hn, hN⟩ := X
  refine x_new (ci := 11) (fs := [.int 0, .null]) (C := RX4) (T := TX4) (N := 2) hx hb hts in_X4 tyX4 tyX4_ok hown (hts _ q587) (hts _ q588) (hts _ q85) hK rfl (fun j hj => by rcases (show j = 0 ∨ j = 1 by omega) with rfl | rfl <;> rfl) hC.1 hC.2 hdg (fun H1 hP hz ho => ?_)
  refine kk H.size H1 (((Y.grow).keep (by omega) ho Y.2.1.2.2)) hP (Nat.le_refl _) ?_ (by omega)
  cases hc : Nn H.size with
  | none => rfl
  | some x => exact absurd (Y.2.2.1 _ x hc).1.lt (Nat.lt_irrefl _)
theorem rd_initO {b : Int32} {x : Nat} {a : Nat} (X : rX p s m args meth c cc nL D r tx cB NN n) (Y : rY D r tx cB NN tp n s E ρ Nn H locs) (hU : va_P D vcl [(a, .inr (11, [.int 0, .null]))] H) (haN : Nn a = none) (ha : s.heap.size ≤ a) (hEa : E a) (hrs : r < s.heap.size) (hts9 : tx < s.heap.size) (hb0 : narrow .boolean (.int b) = .int b) (hb1 : fits .boolean (.int b) = true) (hR : 2 ≤ R.frames ∧ 35 ≤ R.locals) (hC : cells ≤ R.cells ∧ slots ≤ R.slots) (hls : ls.size = nL) (hst : (rest.map fun v => v.category).sum ≤ 8) (hdg : decode cc pc = .ok (.invokespecial 101, 3))
    (kk : ∀ (H1 : Heap) (locs1 : List Loc), rY D r tx cB NN tp n s E ρ (nUp Nn a (.inr (11, [.int b, .ref x]))) H1 locs1 → W p l e R s m args below meth c H1 locs1 cells slots Q (F0 m (pc + 3) ls rest)) : W p l e R s m args below meth c H locs cells slots Q (F0 m pc ls (.ref x :: .int b :: .ref a :: rest)) := by
  obtain ⟨hx, hb, hml, hown, hts, hlk, hno, hK, hKc, hne, hn, hN⟩ := X
  obtain ⟨⟨wv, hP, hw⟩, hS, hNn, hEr⟩ := id Y
  have hrl : r < H.size := (hP 0 _ rfl).lt
  have htl : tx < H.size := (hP 1 _ rfl).lt
  refine va_callv (A0 := rA r tx s.heap.size) (va_runI (As := [.int b, .ref x]) (rest := rest) ⟨hx, hb, hml, hown, hts⟩ (tX4_init l D a b x hb0 hb1) (cwI 2 hts (lw_meth q591) rfl rfl rfl (hts _ q85) (hts _ q589) (hts _ q590) rfl (by decide +kernel) ⟨hR.1, Nat.le_trans (Nat.le_of_ble_eq_true rfl) hR.2⟩) ⟨ni_blind, fun U hU2 hW => ⟨rfl, by rw [hU2]; exact hU, va_K.moved hW.alike (hK.sub [] rfl)⟩⟩ rfl rfl hls rfl (lv_room hst) hdg hC) hS (fun q _ h => Or.inr (Or.inr (by rw [show q = a from h]; exact ha))) (fun q h => Or.inr (Or.inr (by rw [show q = a from h]; exact ha))) (fun u t H1 locs1 ht hvm hp hB hz hkp hS1 => ?_)
  have hB1 : va_P D vcl [(a, .inr (11, [.int b, .ref x]))] H1 := by rw [← ht]; exact hB
  have hra : r ≠ a := fun z => by rw [← z] at ha; exact absurd hrs (Nat.not_lt.mpr ha)
  have hta : tx ≠ a := fun z => by rw [← z] at ha; exact absurd hts9 (Nat.not_lt.mpr ha)
  refine kk H1 locs1 ⟨⟨wv, fun k q hq => ?_, hw.kept (fun q g1 g2 => hkp q g1 (fun z => g2 (by rw [show q = a from z]; exact hEa)))⟩, hS1, fun b x hx9 => ?_, hEr⟩
  · match k, hq with
    | 0, hq => cases hq; exact (hP 0 _ rfl).kept (hkp _ hrl hra)
    | 1, hq => cases hq; exact (hP 1 _ rfl).kept (hkp _ htl hta)
  · unfold nUp at hx9
    by_cases e : b = a
    · subst e
      rw [if_pos rfl] at hx9
      cases hx9
      exact ⟨hB1 0 _ rfl, fun z => hra z.symm, fun z => hta z.symm⟩
    · rw [if_neg e] at hx9
      exact ⟨(hNn b x hx9).1.kept (hkp _ (hNn b x hx9).1.lt e), (hNn b x hx9).2⟩
theorem rd_newT (X : rX p s m args meth c cc nL D r tx cB NN n) (Y : rY D r tx cB NN tp n s E ρ Nn H locs) (hC : cells + 1 ≤ R.cells ∧ slots + 3 ≤ R.slots) (hdg : decode cc pc = .ok (.new 124, 3)) (kk : ∀ (a : Nat) (H1 : Heap), rY D r tx cB NN tp n s (fun q => E q ∨ q = a) ρ Nn H1 locs → va_P D vcl [(a, .inr (12, [.int 0, .null, .null]))] H1 → H.size ≤ a → Nn a = none → a < H1.size → W p l e R s m args below meth c H1 locs (cells + 1) (slots + 3) Q (F0 m (pc + 3) ls (.ref a :: rest))) : W p l e R s m args below meth c H locs cells slots Q (F0 m pc ls rest) := by
  obtain ⟨hx, hb, hml, hown, hts, hlk, hno, hK, hKc, hne, hn, hN⟩ := X
  refine x_new (ci := 12) (fs := [.int 0, .null, .null]) (C := RX6) (T := TX6) (N := 3) hx hb hts in_X6 tyX6 tyX6_ok hown (hts _ q631) (hts _ q632) (hts _ q87) hK rfl (fun j hj => by rcases (show j = 0 ∨ j = 1 ∨ j = 2 by omega) with rfl | rfl | rfl <;> rfl) hC.1 hC.2 hdg (fun H1 hP hz ho => ?_)
  refine kk H.size H1 (((Y.grow).keep (by omega) ho Y.2.1.2.2)) hP (Nat.le_refl _) ?_ (by omega)
  cases hc : Nn H.size with
  | none => rfl
  | some x => exact absurd (Y.2.2.1 _ x hc).1.lt (Nat.lt_irrefl _)
theorem rd_initT {g : Int32} {x y : Nat} {a : Nat} (X : rX p s m args meth c cc nL D r tx cB NN n) (Y : rY D r tx cB NN tp n s E ρ Nn H locs) (hU : va_P D vcl [(a, .inr (12, [.int 0, .null, .null]))] H) (haN : Nn a = none) (ha : s.heap.size ≤ a) (hEa : E a) (hrs : r < s.heap.size) (hts9 : tx < s.heap.size) (hR : 2 ≤ R.frames ∧ 35 ≤ R.locals) (hC : cells ≤ R.cells ∧ slots ≤ R.slots) (hls : ls.size = nL) (hst : (rest.map fun v => v.category).sum ≤ 8) (hdg : decode cc pc = .ok (.invokespecial 126, 3))
    (kk : ∀ (H1 : Heap) (locs1 : List Loc), rY D r tx cB NN tp n s E ρ (nUp Nn a (.inr (12, [.int g, .ref x, .ref y]))) H1 locs1 → W p l e R s m args below meth c H1 locs1 cells slots Q (F0 m (pc + 3) ls rest)) : W p l e R s m args below meth c H locs cells slots Q (F0 m pc ls (.ref y :: .ref x :: .int g :: .ref a :: rest)) := by
  obtain ⟨hx, hb, hml, hown, hts, hlk, hno, hK, hKc, hne, hn, hN⟩ := X
  obtain ⟨⟨wv, hP, hw⟩, hS, hNn, hEr⟩ := id Y
  have hrl : r < H.size := (hP 0 _ rfl).lt
  have htl : tx < H.size := (hP 1 _ rfl).lt
  refine va_callv (A0 := rA r tx s.heap.size) (va_runI (As := [.int g, .ref x, .ref y]) (rest := rest) ⟨hx, hb, hml, hown, hts⟩ (tX6_init l D a g x y) (cwI 3 hts (lw_meth q635) rfl rfl rfl (hts _ q87) (hts _ q633) (hts _ q634) rfl (by decide +kernel) ⟨hR.1, Nat.le_trans (Nat.le_of_ble_eq_true rfl) hR.2⟩) ⟨ni_blind, fun U hU2 hW => ⟨rfl, by rw [hU2]; exact hU, va_K.moved hW.alike (hK.sub [] rfl)⟩⟩ rfl rfl hls rfl (lv_room hst) hdg hC) hS (fun q _ h => Or.inr (Or.inr (by rw [show q = a from h]; exact ha))) (fun q h => Or.inr (Or.inr (by rw [show q = a from h]; exact ha))) (fun u t H1 locs1 ht hvm hp hB hz hkp hS1 => ?_)
  have hB1 : va_P D vcl [(a, .inr (12, [.int g, .ref x, .ref y]))] H1 := by rw [← ht]; exact hB
  have hra : r ≠ a := fun z => by rw [← z] at ha; exact absurd hrs (Nat.not_lt.mpr ha)
  have hta : tx ≠ a := fun z => by rw [← z] at ha; exact absurd hts9 (Nat.not_lt.mpr ha)
  refine kk H1 locs1 ⟨⟨wv, fun k q hq => ?_, hw.kept (fun q g1 g2 => hkp q g1 (fun z => g2 (by rw [show q = a from z]; exact hEa)))⟩, hS1, fun b x hx9 => ?_, hEr⟩
  · match k, hq with
    | 0, hq => cases hq; exact (hP 0 _ rfl).kept (hkp _ hrl hra)
    | 1, hq => cases hq; exact (hP 1 _ rfl).kept (hkp _ htl hta)
  · unfold nUp at hx9
    by_cases e : b = a
    · subst e
      rw [if_pos rfl] at hx9
      cases hx9
      exact ⟨hB1 0 _ rfl, fun z => hra z.symm, fun z => hta z.symm⟩
    · rw [if_neg e] at hx9
      exact ⟨(hNn b x hx9).1.kept (hkp _ (hNn b x hx9).1.lt e), (hNn b x hx9).2⟩
end RPR
