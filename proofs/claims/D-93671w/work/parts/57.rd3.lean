/-! ===== the reader's walk: rows; opens, takes, nodes; by gen/rd3.py ===== -/
set_option maxRecDepth 100000
abbrev idA : Nat → Nat := fun q => q - 200
def nP (D : va_G) (Nn : Nat → Option va_E) (r tx : Nat) (H : Heap) : Prop := ∀ (a : Nat) (x : va_E), Nn a = some x → va_at D vcl (a, x) H ∧ a ≠ r ∧ a ≠ tx
def rY (D : va_G) (r tx cB NN : Nat) (tp : Nat → Int32) (n : Nat) (s : State) (E : Nat → Prop) (ρ : tR) (Nn : Nat → Option va_E) (H : Heap) (locs : List Loc) : Prop :=
  (∃ wv, va_P D vcl (rdW r tx cB NN tp n ρ wv) H ∧ wdOK E ρ.2.2.2.1 wv s H) ∧ va_S (rA r tx s.heap.size) s.heap H locs ∧ nP D Nn r tx H ∧ E r
def rX (p : Program) (s : State) (m : MethodId) (args : Array Value) (meth : Method) (c : Code) (cc : ByteArray) (nL : Nat) (D : va_G) (r tx cB NN n : Nat) : Prop :=
  p.tables.exec = Jvm.exec ∧ c.code = cc ∧ c.maxLocals = nL ∧ s.vm.findClass RX2 = some m.cls ∧ (∀ w ∈ lw_all, w.before args s = true) ∧ meth.locks = false ∧ c.exceptionTable.toList = [] ∧ va_K D vcl [(cB, .byte)] s ∧ rK (rA r tx s.heap.size) s s.heap ∧ r ≠ tx ∧ n ≤ NN ∧ NN < 2 ^ 31
theorem cTr_mono {N N2 : Nat → Option va_E} {ad : Nat → Nat} (h : ∀ q x, N q = some x → N2 q = some x) : ∀ (d d2 k : Nat) (c : List Int32), d ≤ d2 → cTr N ad d k c → cTr N2 ad d2 k c
  | 0, _, _, _, _, q => q.elim
  | d + 1, 0, _, _, hd, _ => absurd hd (by omega)
  | d + 1, d2 + 1, k, c, hd, q => by
    rcases q with ⟨v, nm, h1, h2⟩ | ⟨b, k1, c1, h1, h2, h3⟩ | ⟨sg, op, k1, k2, c1, c2, h1, h2, h3, ho, hc⟩
    · exact Or.inl ⟨v, nm, h _ _ h1, h2⟩
    · exact Or.inr (Or.inl ⟨b, k1, c1, h _ _ h1, cTr_mono h d d2 k1 c1 (by omega) h2, h3⟩)
    · exact Or.inr (Or.inr ⟨sg, op, k1, k2, c1, c2, h _ _ h1, cTr_mono h d d2 k1 c1 (by omega) h2, cTr_mono h d d2 k2 c2 (by omega) h3, ho, hc⟩)
theorem nP.kept {D : va_G} {Nn : Nat → Option va_E} {r tx : Nat} {H H1 : Heap} (h : nP D Nn r tx H) (hk : ∀ q : Nat, q < H.size → q ≠ r → q ≠ tx → H1[q]? = H[q]?) : nP D Nn r tx H1 := fun a x hx => ⟨(h a x hx).1.kept (hk a (h a x hx).1.lt (h a x hx).2.1 (h a x hx).2.2), (h a x hx).2⟩
theorem rY.to {D : va_G} {r tx cB NN : Nat} {tp : Nat → Int32} {n : Nat} {s : State} {E E1 : Nat → Prop} {ρ ρ1 : tR} {Nn : Nat → Option va_E} {H H1 : Heap} {locs locs1 : List Loc} (Y : rY D r tx cB NN tp n s E ρ Nn H locs) (hz : H.size ≤ H1.size) (hk : ∀ q : Nat, q < H.size → q ≠ r → q ≠ tx → H1[q]? = H[q]?) (hl : ∀ q ∈ locs1, rA r tx s.heap.size q.base) (hE : ∃ wv, va_P D vcl (rdW r tx cB NN tp n ρ1 wv) H1 ∧ wdOK E1 ρ1.2.2.2.1 wv s H1) (hEr : E1 r) : rY D r tx cB NN tp n s E1 ρ1 Nn H1 locs1 :=
  ⟨hE, ⟨Nat.le_trans Y.2.1.1 hz, fun q h1 h2 => (hk q (Nat.lt_of_lt_of_le h1 Y.2.1.1) (fun z => h2 (Or.inl z)) (fun z => h2 (Or.inr (Or.inl z)))).trans (Y.2.1.2.1 q h1 h2), hl⟩, Y.2.2.1.kept hk, hEr⟩
theorem rY.keep {D : va_G} {r tx cB NN : Nat} {tp : Nat → Int32} {n : Nat} {s : State} {E : Nat → Prop} {ρ : tR} {Nn : Nat → Option va_E} {H H1 : Heap} {locs locs1 : List Loc} (Y : rY D r tx cB NN tp n s E ρ Nn H locs) (hz : H.size ≤ H1.size) (hk : ∀ q : Nat, q < H.size → H1[q]? = H[q]?) (hl : ∀ q ∈ locs1, rA r tx s.heap.size q.base) : rY D r tx cB NN tp n s E ρ Nn H1 locs1 := by
  obtain ⟨wv, h1, h2⟩ := Y.1
  exact Y.to hz (fun q h _ _ => hk q h) hl ⟨wv, h1.kept (fun k q hq => hk _ (h1 k q hq).lt), h2.kept (fun a h _ => hk a h)⟩ Y.2.2.2
section RRW
variable {p : Program} {l : Launch} {e : Env} {R : Room} {s : State} {m : MethodId} {args : Array Value} {below : List Frame} {meth : Method} {c : Code} {H : Heap} {locs : List Loc} {cells slots mc ms MC MS : Nat} {Q : State → Prop} {Qc : Array Value → State → Outcome → State → Prop}
variable {cc : ByteArray} {nL pc : Nat} {ls : Array Slot} {st0 rest : List Value} {D : va_G} {r tx cB NN n : Nat} {tp : Nat → Int32} {E : Nat → Prop} {ρ : tR} {Nn : Nat → Option va_E}
theorem rg_text (X : rX p s m args meth c cc nL D r tx cB NN n) (Y : rY D r tx cB NN tp n s E ρ Nn H locs) (hdg : decode cc pc = .ok (.getfield 21, 3)) (kk : W p l e R s m args below meth c H locs cells slots Q (F0 m (pc + 3) ls (.ref tx :: rest))) : W p l e R s m args below meth c H locs cells slots Q (F0 m pc ls (.ref r :: rest)) := by
  obtain ⟨hx, hb, hml, hown, hts, hlk, hno, hK, hKc, hne, hn, hN⟩ := X
  obtain ⟨⟨wv, hP, hw⟩, hS, hNn, hEr⟩ := Y
  exact va_get hx hb hts in_X2 hown hK hP 0 rfl rfl 0 (by decide) (hts _ q219) (fun _ h9 => h9) rfl hdg kk
theorem rg_size (X : rX p s m args meth c cc nL D r tx cB NN n) (Y : rY D r tx cB NN tp n s E ρ Nn H locs) (hdg : decode cc pc = .ok (.getfield 25, 3)) (kk : W p l e R s m args below meth c H locs cells slots Q (F0 m (pc + 3) ls (.int (nI n) :: rest))) : W p l e R s m args below meth c H locs cells slots Q (F0 m pc ls (.ref r :: rest)) := by
  obtain ⟨hx, hb, hml, hown, hts, hlk, hno, hK, hKc, hne, hn, hN⟩ := X
  obtain ⟨⟨wv, hP, hw⟩, hS, hNn, hEr⟩ := Y
  exact va_get hx hb hts in_X2 hown hK hP 0 rfl rfl 1 (by decide) (hts _ q220) (fun _ h9 => h9) rfl hdg kk
theorem rg_at (X : rX p s m args meth c cc nL D r tx cB NN n) (Y : rY D r tx cB NN tp n s E ρ Nn H locs) (hdg : decode cc pc = .ok (.getfield 9, 3)) (kk : W p l e R s m args below meth c H locs cells slots Q (F0 m (pc + 3) ls (.int (nI ρ.1) :: rest))) : W p l e R s m args below meth c H locs cells slots Q (F0 m pc ls (.ref r :: rest)) := by
  obtain ⟨hx, hb, hml, hown, hts, hlk, hno, hK, hKc, hne, hn, hN⟩ := X
  obtain ⟨⟨wv, hP, hw⟩, hS, hNn, hEr⟩ := Y
  exact va_get hx hb hts in_X2 hown hK hP 0 rfl rfl 2 (by decide) (hts _ q221) (fun _ h9 => h9) rfl hdg kk
theorem rg_from (X : rX p s m args meth c cc nL D r tx cB NN n) (Y : rY D r tx cB NN tp n s E ρ Nn H locs) (hdg : decode cc pc = .ok (.getfield 15, 3)) (kk : W p l e R s m args below meth c H locs cells slots Q (F0 m (pc + 3) ls (.int (nI ρ.2.1) :: rest))) : W p l e R s m args below meth c H locs cells slots Q (F0 m pc ls (.ref r :: rest)) := by
  obtain ⟨hx, hb, hml, hown, hts, hlk, hno, hK, hKc, hne, hn, hN⟩ := X
  obtain ⟨⟨wv, hP, hw⟩, hS, hNn, hEr⟩ := Y
  exact va_get hx hb hts in_X2 hown hK hP 0 rfl rfl 3 (by decide) (hts _ q222) (fun _ h9 => h9) rfl hdg kk
theorem rg_open (X : rX p s m args meth c cc nL D r tx cB NN n) (Y : rY D r tx cB NN tp n s E ρ Nn H locs) (hdg : decode cc pc = .ok (.getfield 18, 3)) (kk : W p l e R s m args below meth c H locs cells slots Q (F0 m (pc + 3) ls (.int (nI ρ.2.2.1) :: rest))) : W p l e R s m args below meth c H locs cells slots Q (F0 m pc ls (.ref r :: rest)) := by
  obtain ⟨hx, hb, hml, hown, hts, hlk, hno, hK, hKc, hne, hn, hN⟩ := X
  obtain ⟨⟨wv, hP, hw⟩, hS, hNn, hEr⟩ := Y
  exact va_get hx hb hts in_X2 hown hK hP 0 rfl rfl 4 (by decide) (hts _ q223) (fun _ h9 => h9) rfl hdg kk
theorem rg_number (X : rX p s m args meth c cc nL D r tx cB NN n) (Y : rY D r tx cB NN tp n s E ρ Nn H locs) (hdg : decode cc pc = .ok (.getfield 41, 3)) (kk : W p l e R s m args below meth c H locs cells slots Q (F0 m (pc + 3) ls (.int ρ.2.2.2.2.1 :: rest))) : W p l e R s m args below meth c H locs cells slots Q (F0 m pc ls (.ref r :: rest)) := by
  obtain ⟨hx, hb, hml, hown, hts, hlk, hno, hK, hKc, hne, hn, hN⟩ := X
  obtain ⟨⟨wv, hP, hw⟩, hS, hNn, hEr⟩ := Y
  exact va_get hx hb hts in_X2 hown hK hP 0 rfl rfl 6 (by decide) (hts _ q225) (fun _ h9 => h9) rfl hdg kk
theorem rg_sign (X : rX p s m args meth c cc nL D r tx cB NN n) (Y : rY D r tx cB NN tp n s E ρ Nn H locs) (hdg : decode cc pc = .ok (.getfield 44, 3)) (kk : W p l e R s m args below meth c H locs cells slots Q (F0 m (pc + 3) ls (.int ρ.2.2.2.2.2 :: rest))) : W p l e R s m args below meth c H locs cells slots Q (F0 m pc ls (.ref r :: rest)) := by
  obtain ⟨hx, hb, hml, hown, hts, hlk, hno, hK, hKc, hne, hn, hN⟩ := X
  obtain ⟨⟨wv, hP, hw⟩, hS, hNn, hEr⟩ := Y
  exact va_get hx hb hts in_X2 hown hK hP 0 rfl rfl 7 (by decide) (hts _ q226) (fun _ h9 => h9) rfl hdg kk
theorem rg_word (X : rX p s m args meth c cc nL D r tx cB NN n) (Y : rY D r tx cB NN tp n s E ρ Nn H locs) (hdg : decode cc pc = .ok (.getfield 37, 3)) (k1 : ρ.2.2.2.1 = none → W p l e R s m args below meth c H locs cells slots Q (F0 m (pc + 3) ls (.null :: rest))) (k2 : ρ.2.2.2.1 ≠ none → ∀ t : Nat, W p l e R s m args below meth c H locs cells slots Q (F0 m (pc + 3) ls (.ref t :: rest))) : W p l e R s m args below meth c H locs cells slots Q (F0 m pc ls (.ref r :: rest)) := by
  obtain ⟨hx, hb, hml, hown, hts, hlk, hno, hK, hKc, hne, hn, hN⟩ := X
  obtain ⟨⟨wv, hP, hw⟩, hS, hNn, hEr⟩ := Y
  rcases hw with ⟨h1, h2⟩ | ⟨b, t, h1, h2, h3, h4⟩
  · subst h2
    exact va_get hx hb hts in_X2 hown hK hP 0 rfl rfl 5 (by decide) (hts _ q224) (fun _ h9 => h9) rfl hdg (k1 h1)
  · subst h3
    exact va_get hx hb hts in_X2 hown hK hP 0 rfl rfl 5 (by decide) (hts _ q224) (fun _ h9 => h9) rfl hdg (k2 (by rw [h1]; exact fun z => by cases z) t)
theorem rp_open (X : rX p s m args meth c cc nL D r tx cB NN n) (Y : rY D r tx cB NN tp n s E ρ Nn H locs) {o : Nat} {v : Int32} (hv : v = nI o) (hdg : decode cc pc = .ok (.putfield 18, 3)) (kk : ∀ (H1 : Heap) (locs1 : List Loc), rY D r tx cB NN tp n s E (ρ.1, ρ.2.1, o, ρ.2.2.2) Nn H1 locs1 → H1.size = H.size → (∀ q : Nat, q ≠ r → H1[q]? = H[q]?) → W p l e R s m args below meth c H1 locs1 cells slots Q (F0 m (pc + 3) ls rest)) : W p l e R s m args below meth c H locs cells slots Q (F0 m pc ls (.int v :: .ref r :: rest)) := by
  subst hv
  obtain ⟨hx, hb, hml, hown, hts, hlk, hno, hK, hKc, hne, hn, hN⟩ := X
  obtain ⟨⟨wv, hP, hw⟩, hS, hNn, hEr⟩ := id Y
  have hap := va_apart (own := RX2) hts in_X2 tyX2 tyX2_ok nmX2 hK (ci := 13) rfl
  obtain ⟨r9, h1, cell, q1, q2, q3, q4⟩ := hP 0 _ rfl
  have hr : r9 = (RX2, TX2, 8) := Option.some.inj (h1.symm.trans rfl)
  subst hr
  obtain ⟨hS9, hfc, kC, hkC, hkind⟩ := hK.1 13 _ rfl
  obtain ⟨cf, kf, fi, f, hi, hsl⟩ := hS9 4 (by decide)
  have hlay := hts _ (in_X2 _ (u_in_lay (k := 4) (by decide)))
  unfold u_lay at hlay
  rw [if_neg (by decide)] at hlay
  have hst := (u_facts hfc hkC (u_lays hts in_X2 (by decide)) hi).1
  have h6 := u_store (v := .int (nI o)) (ty := .int) hfc hkC hkind hlay hi (by decide +kernel) rfl rfl
  refine W.putK hx hb (f := f) ⟨hown, hts _ q223, ⟨_, _, _, hi⟩, hst⟩ (by rw [q2]; exact h6) q1 q3 (by rw [hsl]; exact k2_hasslot (q4 4 (by decide))) rfl rfl hdg fun H' e1 e2 e3 => ?_
  rw [hsl] at e1
  have hA : rA r tx s.heap.size r := Or.inl rfl
  have hsz : H'.size = H.size := e2
  refine kk H' _ (Y.to (by omega) (fun q _ h _ => e3 q h) (fun q hq => ?_) ⟨wv, fun k q hq => ?_, hw.kept (fun a _ h => e3 a (fun z => h (by rw [z]; exact hEr)))⟩ hEr) e2 e3
  · rcases List.mem_append.mp hq with h | h
    · exact hS.2.2 q h
    · rw [List.mem_singleton.mp h]; exact hA
  · match k, hq with
    | 0, hq =>
      cases hq
      exact ⟨_, rfl, t_OB.to (V := updV (vp_V (rdO tx n ρ wv)) 4 (.int (nI o))) ⟨_, e1, q2, q3, t_set q4 hap (by decide) _⟩ (fun j _ => vp_updV_set (show 4 < (rdO tx n ρ wv).length from (show 4 < 8 by decide)) _ j)⟩
    | 1, hq =>
      cases hq
      exact (hP 1 _ rfl).kept (e3 _ (fun z => hne z.symm))
/-- the start of a call that takes the reader -/
theorem rd_pre (X : rX p s m args meth c cc nL D r tx cB NN n) (Y : rY D r tx cB NN tp n s E ρ Nn H locs) {as : List Value} : PreV s H RX2 r (va_Pc (.ref r :: as) (rdB D r tx cB NN tp n ρ H.size)) as := by
  obtain ⟨hx, hb, hml, hown, hts, hlk, hno, hK, hKc, hne, hn, hN⟩ := X
  obtain ⟨⟨wv, hP, hw⟩, hS, hNn, hEr⟩ := Y
  refine ⟨rd_blind, va_recv hK hP (ci := 13) (q0 := 0) rfl rfl, fun V hV hW => ⟨rfl, by rw [hV], ⟨wv, by rw [hV]; exact hP, by rw [hV]; exact (hw.narrow (fun q h => by rw [h]; exact hEr)).moved hW.alike⟩, va_K.moved hW.alike hK, by rw [hV]; exact ((hKc.kept hS.2.1).narrow (fun q h => h.elim Or.inl (fun z => Or.inr (z.elim Or.inl (fun z => Or.inr (Nat.le_trans hS.1 z)))))).warm hW⟩⟩
/-- behind next or opens or takes -/
theorem rd_nx {σ : Sum Nat tR} {v : Option Value} {as : Array Value} (X : rX p s m args meth c cc nL D r tx cB NN n) (Y : rY D r tx cB NN tp n s E ρ Nn H locs) (hr : xRun p l e R s m args below meth c H locs cells slots mc ms (F0 m pc ls st0) rest (nxQ D r tx cB NN tp n H.size σ v as) (rA r tx H.size)) (h1 : cells + mc ≤ MC) (h2 : slots + ms ≤ MS)
    (hq : ∀ (pl : Nat) (t : State) (a : Nat) (L : List Loc), σ = .inl pl → s.heap.size ≤ a → flt D tx cB NN tp a pl t → va_F (rA r tx s.heap.size) s t → xFE s t L (cells + mc) (slots + ms) → (∀ q ∈ L, rA r tx s.heap.size q.base) → Qc args s (.threw a) t)
    (kr : ∀ (ρ' : tR) (H1 : Heap) (locs1 : List Loc), σ = .inr ρ' → rY D r tx cB NN tp n s (fun q => q < H.size) ρ' Nn H1 locs1 → H.size ≤ H1.size → (∀ q : Nat, q < H.size → q ≠ r → q ≠ tx → H1[q]? = H[q]?) → W p l e R s m args below meth c H1 locs1 (cells + mc) (slots + ms) (xMQ below Qc args s MC MS (rA r tx s.heap.size)) (F0 m (pc + 3) ls (v.toList ++ rest))) :
    W p l e R s m args below meth c H locs cells slots (xMQ below Qc args s MC MS (rA r tx s.heap.size)) (F0 m pc ls st0) := by
  obtain ⟨hx, hb, hml, hown, hts, hlk, hno, hK, hKc, hne, hn, hN⟩ := X
  have hzz : s.heap.size ≤ H.size := Y.2.1.1
  have hsub : ∀ q, rA r tx H.size q → rA r tx s.heap.size q := fun q h => h.elim Or.inl (fun z => Or.inr (z.elim Or.inl (fun z => Or.inr (Nat.le_trans hzz z))))
  have hloc : ∀ L : List Loc, (∀ q ∈ L, rA r tx H.size q.base) → ∀ q ∈ locs ++ L, rA r tx s.heap.size q.base := fun L hL q hq => (List.mem_append.mp hq).elim (fun h => Y.2.1.2.2 q h) (fun h => hsub _ (hL q h))
  have hkp : ∀ st t : State, st.heap = H → va_F (rA r tx H.size) st t → H.size ≤ t.heap.size ∧ ∀ q : Nat, q < H.size → q ≠ r → q ≠ tx → t.heap[q]? = H[q]? := fun st t h0 hF => by
    have f1 := hF.1
    have f2 := hF.2
    rw [h0] at f1 f2
    exact ⟨f1, fun q g1 g2 g3 => f2 q g1 (fun z => z.elim g2 (fun z => z.elim g3 (fun z => Nat.not_le.mpr g1 z)))⟩
  intro T hT XX
  obtain ⟨o, st, t, T', g0, X', ⟨L, hfe, hL⟩, e1, e2, ⟨hF, hq2⟩, go⟩ := hr T hT XX
  obtain ⟨f1, f2⟩ := hkp st t g0 hF
  rcases hq2 with ⟨ρ', g1, g2, wv, g3, g4⟩ | ⟨pl, g1, a, g2, g3, g4⟩
  · subst g2
    have hal : s.vm.Alike t.vm := by rw [← e2]; exact (X' L _ _ hfe).warmed.alike
    have Y1 : rY D r tx cB NN tp n s (fun q => q < H.size) ρ' Nn t.heap (locs ++ L) := Y.to f1 f2 (hloc L hL) ⟨wv, g3, g4.moved hal.symm⟩ (by obtain ⟨⟨w9, hP9, -⟩, -⟩ := Y; exact (hP9 0 _ rfl).lt)
    obtain ⟨t2, a1, b1⟩ := kr ρ' t.heap (locs ++ L) g1 Y1 f1 f2 T' e1 (X' L _ _ hfe)
    exact ⟨t2, go t2 a1, b1⟩
  · subst g2
    have hS1 : va_S (rA r tx s.heap.size) s.heap t.heap (locs ++ L) := ⟨Nat.le_trans hzz f1, fun q w1 w2 => (f2 q (Nat.lt_of_lt_of_le w1 hzz) (fun z => w2 (Or.inl z)) (fun z => w2 (Or.inr (Or.inl z)))).trans (Y.2.1.2.1 q w1 w2), hloc L hL⟩
    have k : xW p l e R s m args below meth c t.heap (locs ++ L) (cells + mc) (slots + ms) (xMQ below Qc args s MC MS (rA r tx s.heap.size)) (F0 m pc ls rest) a := x_outE hno hlk (fun t2 ht2 hW hfe2 => hq pl t2 a _ g1 (Nat.le_trans hzz g3) (g4.at ht2) (hS1.F ht2) hfe2 hS1.2.2) hS1.2.2 h1 h2
    obtain ⟨t2, a1, b1⟩ := k T' e1 (X' L _ _ hfe)
    exact ⟨t2, go t2 a1, b1⟩
end RRW
def sOpens (tp : Nat → Int32) (n : Nat) (ρ : tR) : Sum Nat tR := if ρ.2.2.1 = 5 then .inl ρ.2.1 else sNext tp n (ρ.1, ρ.2.1, ρ.2.2.1 + 1, ρ.2.2.2)
set_option maxHeartbeats 1000000 in
theorem tX2_opens (l : Launch) (D : va_G) (r tx cB NN : Nat) (tp : Nat → Int32) (n : Nat) (ρ : tR) (sz : Nat) (hn : n ≤ NN) (hN : NN < 2 ^ 31) (ha : ρ.1 ≤ n) (hne : r ≠ tx) (ho : ρ.2.2.1 ≤ 5) : xMet l yX2_opens (ws_ yX2_opens cX2_opens 1 none) { frames := 7, cells := 4, slots := 33, locals := 196 } (va_Pc [.ref r] (rdB D r tx cB NN tp n ρ sz)) (nxQ D r tx cB NN tp n sz (sOpens tp n ρ) none) 4 33 (rA r tx sz) := by
  refine xg_entry (by decide) (Nat.le_of_ble_eq_true rfl) ?_
  intro p e s m args below meth c ls hx hb hml hown hts hlk hr0 hB hl hno
  obtain ⟨hsz, hE, hK, hKc⟩ := hB
  subst hsz
  have hown : s.vm.findClass RX2 = some m.cls := hown
  have hl : lv_has ls 1 [(0, .ref r)] := hl
  have X : rX p s m args meth c cX2_opens 1 D r tx cB NN n := ⟨hx, hb, hml, hown, hts, hlk, hno, hK, hKc, hne, hn, hN⟩
  have Y : rY D r tx cB NN tp n s (fun q => q = r) ρ (fun _ => none) s.heap [] := ⟨hE, va_S.rf, fun a x h => (by cases h), rfl⟩
  refine lv_aload_n hx hb dX2_opens_0 rfl (lv_at hl 0 rfl) ?_
  refine rg_open X Y dX2_opens_1 ?_
  refine lv_iconst (v := 5) hx hb dX2_opens_4 (by decide) ?_
  refine lv_icmp_ne (tgt := 13) hx hb dX2_opens_5 (by decide) (fun c_1 => ?_) (fun c_1 => ?_)
  · have h5 : ¬ ρ.2.2.1 = 5 := fun z => c_1 (by rw [z]; rfl)
    have hσ : sOpens tp n ρ = sNext tp n (ρ.1, ρ.2.1, ρ.2.2.1 + 1, ρ.2.2.2) := if_neg h5
    rw [hσ]
    refine lv_aload_n hx hb dX2_opens_13 rfl (lv_at hl 0 rfl) ?_
    refine lv_dup hx hb dX2_opens_14 rfl ?_
    refine rg_open X Y dX2_opens_15 ?_
    refine lv_iconst (v := 1) hx hb dX2_opens_18 (by decide) ?_
    refine lv_iadd hx hb dX2_opens_19 ?_
    refine rp_open X Y (nI_1 _) dX2_opens_20 (fun H locs Y _ _ => ?_)
    have hzz : s.heap.size ≤ H.size := Y.2.1.1
    refine lv_aload_n hx hb dX2_opens_23 rfl (lv_at hl 0 rfl) ?_
    refine rd_nx X Y (x_runV (C := RX2) (As := []) (rest := []) ⟨hx, hb, hml, hown, hts⟩ (tX2_next l D r tx cB NN tp n (ρ.1, ρ.2.1, ρ.2.2.1 + 1, ρ.2.2.2) H.size hn hN ha hne) (cwV 0 hts (lw_V q252 q254 qs0 q73 q255) rfl rfl rfl (by decide +kernel) ⟨Nat.le_of_ble_eq_true rfl, Nat.le_of_ble_eq_true rfl⟩) (rd_pre X Y) rfl rfl hl.1 rfl (lv_room (Nat.le_of_ble_eq_true rfl)) dX2_opens_24 ⟨Nat.le_of_ble_eq_true rfl, Nat.le_of_ble_eq_true rfl⟩) (Nat.le_of_ble_eq_true rfl) (Nat.le_of_ble_eq_true rfl) (fun pl t a L g1 g2 g3 g4 g5 g6 => ⟨g4, Or.inr ⟨pl, g1, a, rfl, g2, g3⟩⟩) (fun ρ' H1 locs1 g1 Y1 _ _ => ?_)
    obtain ⟨⟨wv, hP, hw⟩, hS, -⟩ := Y1
    exact W.mono (fun t h => h.x) (W.vret hx hb hr0 (fun t ht hW => ⟨hS.F ht, Or.inl ⟨ρ', g1, rfl, wv, by rw [ht]; exact hP, by rw [ht]; exact (hw.narrow (fun q h => Nat.lt_of_lt_of_le h hzz)).moved hW.alike⟩⟩) hS.2.2 dX2_opens_27 hlk)
  · have h5 : ρ.2.2.1 = 5 := (nI_eq (by omega) (by decide)).mp (show nI ρ.2.2.1 = nI 5 from c_1)
    have hσ : sOpens tp n ρ = .inl ρ.2.1 := if_pos h5
    rw [hσ]
    refine lv_aload_n hx hb dX2_opens_8 rfl (lv_at hl 0 rfl) ?_
    obtain ⟨⟨wv, hP, hw⟩, hS, -⟩ := Y
    exact rd_throw (A := rA r tx s.heap.size) hx hb hml hown hts hlk hno hK hKc.2.2.1 hP hS (fun q h => Or.inr (Or.inr h)) ⟨Nat.le_of_ble_eq_true rfl, Nat.le_of_ble_eq_true rfl⟩ ⟨Nat.le_of_ble_eq_true rfl, Nat.le_of_ble_eq_true rfl⟩ (Nat.le_of_ble_eq_true rfl) (Nat.le_of_ble_eq_true rfl) hl.1 dX2_opens_9 dX2_opens_12 (fun t a L h1 h2 h3 h4 h5 => ⟨h3, Or.inr ⟨_, rfl, a, rfl, h1, h2⟩⟩)
set_option maxHeartbeats 1000000 in
theorem tX2_opens5 (l : Launch) (D : va_G) (r tx cB NN : Nat) (tp : Nat → Int32) (n : Nat) (ρ : tR) (sz : Nat) (hn : n ≤ NN) (hN : NN < 2 ^ 31) (hne : r ≠ tx) (h5 : ρ.2.2.1 = 5) : xMet l yX2_opens (ws_ yX2_opens cX2_opens 1 none) { frames := 7, cells := 1, slots := 7, locals := 196 } (va_Pc [.ref r] (rdB D r tx cB NN tp n ρ sz)) (nxQ D r tx cB NN tp n sz (.inl ρ.2.1) none) 1 7 (rA r tx sz) := by
  refine xg_entry (by decide) (Nat.le_of_ble_eq_true rfl) ?_
  intro p e s m args below meth c ls hx hb hml hown hts hlk hr0 hB hl hno
  obtain ⟨hsz, hE, hK, hKc⟩ := hB
  subst hsz
  have hown : s.vm.findClass RX2 = some m.cls := hown
  have hl : lv_has ls 1 [(0, .ref r)] := hl
  have X : rX p s m args meth c cX2_opens 1 D r tx cB NN n := ⟨hx, hb, hml, hown, hts, hlk, hno, hK, hKc, hne, hn, hN⟩
  have Y : rY D r tx cB NN tp n s (fun q => q = r) ρ (fun _ => none) s.heap [] := ⟨hE, va_S.rf, fun a x h => (by cases h), rfl⟩
  refine lv_aload_n hx hb dX2_opens_0 rfl (lv_at hl 0 rfl) ?_
  refine rg_open X Y dX2_opens_1 ?_
  refine lv_iconst (v := 5) hx hb dX2_opens_4 (by decide) ?_
  refine lv_icmp_ne (tgt := 13) hx hb dX2_opens_5 (by decide) (fun h9 => absurd (by rw [h5]; rfl) h9) (fun c_1 => ?_)
  refine lv_aload_n hx hb dX2_opens_8 rfl (lv_at hl 0 rfl) ?_
  obtain ⟨⟨wv, hP, hw⟩, hS, -⟩ := Y
  exact rd_throw (A := rA r tx s.heap.size) hx hb hml hown hts hlk hno hK hKc.2.2.1 hP hS (fun q h => Or.inr (Or.inr h)) ⟨Nat.le_of_ble_eq_true rfl, Nat.le_of_ble_eq_true rfl⟩ ⟨Nat.le_of_ble_eq_true rfl, Nat.le_of_ble_eq_true rfl⟩ (Nat.le_of_ble_eq_true rfl) (Nat.le_of_ble_eq_true rfl) hl.1 dX2_opens_9 dX2_opens_12 (fun t a L h1 h2 h3 h4 h5 => ⟨h3, Or.inr ⟨_, rfl, a, rfl, h1, h2⟩⟩)
set_option maxHeartbeats 1000000 in
theorem tX2_takesN (l : Launch) (D : va_G) (r tx cB NN : Nat) (tp : Nat → Int32) (n : Nat) (ρ : tR) (wv : Value) (g : Int32) (hg : ¬ ρ.2.2.2.2.2 = g) : Met l yX2_takes (ws_ yX2_takes cX2_takes 2 (some .boolean)) { frames := 0, cells := 0, slots := 0, locals := 0 } (va_Pc [.ref r, .int g] (hrB D r tx cB NN tp n ρ wv)) (rQ (some (.int 0))) 0 0 (fun _ => False) := by
  refine g_entry (by decide) (Nat.le_of_ble_eq_true rfl) ?_
  intro p e s m args below meth c ls hx hb hml hown hts hlk hr hB hl _
  have hS : va_S nA s.heap s.heap [] := va_S.rf
  have hown : s.vm.findClass RX2 = some m.cls := hown
  obtain ⟨hP, hK⟩ := hB
  have hP : va_P D vcl [(r, .inr (13, [.ref tx, .int (nI n), .int (nI ρ.1), .int (nI ρ.2.1), .int (nI ρ.2.2.1), wv, .int ρ.2.2.2.2.1, .int ρ.2.2.2.2.2])), (tx, .inl (cB, NN, .inl tp))] s.heap := hP
  have hl : lv_has ls 2 [(0, .ref r), (1, .int g)] := hl
  refine lv_aload_n hx hb dX2_takes_0 rfl (lv_at hl 0 rfl) ?_
  refine va_get hx hb hts in_X2 hown hK hP 0 rfl rfl 7 (by decide) (hts _ q226) (fun _ h9 => h9) rfl dX2_takes_1 ?_
  refine lv_iload_n hx hb dX2_takes_4 rfl (lv_at hl 1 rfl) ?_
  refine lv_icmp_eq (tgt := 10) hx hb dX2_takes_5 (by decide) (fun h9 => absurd h9 hg) (fun _ => ?_)
  refine lv_iconst (v := 0) hx hb dX2_takes_8 (by decide) ?_
  exact rq_bool hx hb hlk hr rfl dX2_takes_9
set_option maxHeartbeats 1000000 in
theorem tX2_takesY (l : Launch) (D : va_G) (r tx cB NN : Nat) (tp : Nat → Int32) (n : Nat) (ρ : tR) (sz : Nat) (hn : n ≤ NN) (hN : NN < 2 ^ 31) (ha : ρ.1 ≤ n) (hne : r ≠ tx) (g : Int32) (hg : ρ.2.2.2.2.2 = g) : xMet l yX2_takes (ws_ yX2_takes cX2_takes 2 (some .boolean)) { frames := 7, cells := 4, slots := 33, locals := 196 } (va_Pc [.ref r, .int g] (rdB D r tx cB NN tp n ρ sz)) (nxQ D r tx cB NN tp n sz (sNext tp n ρ) (some (.int 1))) 4 33 (rA r tx sz) := by
  refine xg_entry (by decide) (Nat.le_of_ble_eq_true rfl) ?_
  intro p e s m args below meth c ls hx hb hml hown hts hlk hr0 hB hl hno
  obtain ⟨hsz, hE, hK, hKc⟩ := hB
  subst hsz
  have hown : s.vm.findClass RX2 = some m.cls := hown
  have hl : lv_has ls 2 [(0, .ref r), (1, .int g)] := hl
  have X : rX p s m args meth c cX2_takes 2 D r tx cB NN n := ⟨hx, hb, hml, hown, hts, hlk, hno, hK, hKc, hne, hn, hN⟩
  have Y : rY D r tx cB NN tp n s (fun q => q = r) ρ (fun _ => none) s.heap [] := ⟨hE, va_S.rf, fun a x h => (by cases h), rfl⟩
  refine lv_aload_n hx hb dX2_takes_0 rfl (lv_at hl 0 rfl) ?_
  refine rg_sign X Y dX2_takes_1 ?_
  refine lv_iload_n hx hb dX2_takes_4 rfl (lv_at hl 1 rfl) ?_
  refine lv_icmp_eq (tgt := 10) hx hb dX2_takes_5 (by decide) (fun _ => ?_) (fun h9 => absurd hg h9)
  refine lv_aload_n hx hb dX2_takes_10 rfl (lv_at hl 0 rfl) ?_
  refine rd_nx X Y (x_runV (C := RX2) (As := []) (rest := []) ⟨hx, hb, hml, hown, hts⟩ (tX2_next l D r tx cB NN tp n ρ s.heap.size hn hN ha hne) (cwV 0 hts (lw_V q252 q254 qs0 q73 q255) rfl rfl rfl (by decide +kernel) ⟨Nat.le_of_ble_eq_true rfl, Nat.le_of_ble_eq_true rfl⟩) (rd_pre X Y) rfl rfl hl.1 rfl (lv_room (Nat.le_of_ble_eq_true rfl)) dX2_takes_11 ⟨Nat.le_of_ble_eq_true rfl, Nat.le_of_ble_eq_true rfl⟩) (Nat.le_of_ble_eq_true rfl) (Nat.le_of_ble_eq_true rfl) (fun pl t a L g1 g2 g3 g4 g5 g6 => ⟨g4, Or.inr ⟨pl, g1, a, rfl, g2, g3⟩⟩) (fun ρ' H1 locs1 g1 Y1 _ _ => ?_)
  refine lv_iconst (v := 1) hx hb dX2_takes_14 (by decide) ?_
  obtain ⟨⟨wv, hP, hw⟩, hS, -⟩ := Y1
  exact W.mono (fun t h => h.x) (W.zret hx hb hr0 rfl (fun t ht hW => ⟨hS.F ht, Or.inl ⟨ρ', g1, rfl, wv, by rw [ht]; exact hP, by rw [ht]; exact hw.moved hW.alike⟩⟩) hS.2.2 dX2_takes_15 hlk)
def niP (D : va_G) (a ci : Nat) (fs : List Value) (V : State) : Prop := va_P D vcl [(a, .inr (ci, fs))] V.heap ∧ va_K D vcl [] V
theorem ni_blind {as : List Value} {D : va_G} {a ci : Nat} {fs : List Value} : FrameBlind (va_Pc as (niP D a ci fs)) := fun b V g mk q => ⟨q.1, q.2.1, va_K.moved (u := V) (U := V.calling g mk b) (Vm.Alike.refl V.vm) q.2.2⟩
def niQ (D : va_G) (a ci : Nat) (fs : List Value) : Array Value → State → Outcome → State → Prop := va_Qv (fun _ : Unit => True) (fun _ t => va_P D vcl [(a, .inr (ci, fs))] t.heap) (fun q => q = a)
set_option maxHeartbeats 1000000 in
theorem tX5_init (l : Launch) (D : va_G) (a : Nat) (v nm : Int32) : Met l yX5_init (ws_ yX5_init cX5_init 3 none) { frames := 1, cells := 0, slots := 0, locals := 12 } (va_Pc [.ref a, .int v, .int nm] (niP D a 10 [.int 0, .int 0])) (niQ D a 10 [.int v, .int nm]) 0 0 (fun q => q = a) := by
  refine g_entry (by decide) (Nat.le_of_ble_eq_true rfl) ?_
  intro p e s m args below meth c ls hx hb hml hown hts hlk hr hB hl hnm
  obtain ⟨hP, hK⟩ := hB
  have hl : lv_has ls 3 [(0, .ref a), (1, .int v), (2, .int nm)] := hl
  have hown : s.vm.findClass RX5 = some m.cls := hown
  have hin2 : meth.name = "<init>" := hnm
  have hD : va_D (fun q => q = a) [(a, .inr (10, [.int 0, .int 0]))] := vd_1 rfl
  have hS : va_S (fun q => q = a) s.heap s.heap [] := va_S.rf
  refine lv_aload_n hx hb dX5_init_0 rfl (lv_at hl 0 rfl) ?_
  refine W.objInit hx hb hown (hts _ q617) (hts _ q107) (hts _ q108) rfl (by rw [hml]; exact hl.1) rfl dX5_init_1 (Nat.le_of_ble_eq_true rfl) (Nat.le_of_ble_eq_true rfl) ?_
  refine W.eq (g2 := F0 m 4 ls []) rfl ?_
  refine lv_aload_n hx hb dX5_init_4 rfl (lv_at hl 0 rfl) ?_
  refine lv_iload_n hx hb dX5_init_5 rfl (lv_at hl 1 rfl) ?_
  refine va_putF (D := D) (ci := 10) (v := .int v) (ty := tyX5 0) (C := RX5) (T := TX5) (N := 2) hx hb hts in_X5 tyX5 tyX5_ok nmX5 hown hK hP hD hS 0 rfl rfl 0 (by decide) (hts _ q618) (fun _ h9 => h9) rfl hin2 rfl (by decide +kernel) (rfl) (rfl) (Nat.le_of_ble_eq_true rfl) dX5_init_6 (fun H locs hP hD hS => ?_)
  have hP : va_P D vcl [(a, .inr (10, [.int v, .int 0]))] H := hP
  have hD : va_D (fun q => q = a) [(a, .inr (10, [.int v, .int 0]))] := hD
  refine lv_aload_n hx hb dX5_init_9 rfl (lv_at hl 0 rfl) ?_
  refine lv_iload_n hx hb dX5_init_10 rfl (lv_at hl 2 rfl) ?_
  refine va_putF (D := D) (ci := 10) (v := .int nm) (ty := tyX5 1) (C := RX5) (T := TX5) (N := 2) hx hb hts in_X5 tyX5 tyX5_ok nmX5 hown hK hP hD hS 0 rfl rfl 1 (by decide) (hts _ q619) (fun _ h9 => h9) rfl hin2 rfl (by decide +kernel) (rfl) (rfl) (Nat.le_of_ble_eq_true rfl) dX5_init_11 (fun H locs hP hD hS => ?_)
  have hP : va_P D vcl [(a, .inr (10, [.int v, .int nm]))] H := hP
  have hD : va_D (fun q => q = a) [(a, .inr (10, [.int v, .int nm]))] := hD
  exact W.vret hx hb hr (fun t ht hW => ⟨⟨(), rfl, trivial, by show va_P _ _ _ t.heap; rw [ht]; exact hP⟩, hS.F ht⟩) hS.2.2 dX5_init_14 hlk
set_option maxHeartbeats 1000000 in
theorem tX4_init (l : Launch) (D : va_G) (a : Nat) (b : Int32) (x : Nat) (hb0 : narrow .boolean (.int b) = .int b) (hb1 : fits .boolean (.int b) = true) : Met l yX4_init (ws_ yX4_init cX4_init 3 none) { frames := 1, cells := 0, slots := 0, locals := 12 } (va_Pc [.ref a, .int b, .ref x] (niP D a 11 [.int 0, .null])) (niQ D a 11 [.int b, .ref x]) 0 0 (fun q => q = a) := by
  refine g_entry (by decide) (Nat.le_of_ble_eq_true rfl) ?_
  intro p e s m args below meth c ls hx hb hml hown hts hlk hr hB hl hnm
  obtain ⟨hP, hK⟩ := hB
  have hl : lv_has ls 3 [(0, .ref a), (1, .int b), (2, .ref x)] := hl
  have hown : s.vm.findClass RX4 = some m.cls := hown
  have hin2 : meth.name = "<init>" := hnm
  have hD : va_D (fun q => q = a) [(a, .inr (11, [.int 0, .null]))] := vd_1 rfl
  have hS : va_S (fun q => q = a) s.heap s.heap [] := va_S.rf
  refine lv_aload_n hx hb dX4_init_0 rfl (lv_at hl 0 rfl) ?_
  refine W.objInit hx hb hown (hts _ q592) (hts _ q107) (hts _ q108) rfl (by rw [hml]; exact hl.1) rfl dX4_init_1 (Nat.le_of_ble_eq_true rfl) (Nat.le_of_ble_eq_true rfl) ?_
  refine W.eq (g2 := F0 m 4 ls []) rfl ?_
  refine lv_aload_n hx hb dX4_init_4 rfl (lv_at hl 0 rfl) ?_
  refine lv_iload_n hx hb dX4_init_5 rfl (lv_at hl 1 rfl) ?_
  refine va_putF (D := D) (ci := 11) (v := .int b) (ty := tyX4 0) (C := RX4) (T := TX4) (N := 2) hx hb hts in_X4 tyX4 tyX4_ok nmX4 hown hK hP hD hS 0 rfl rfl 0 (by decide) (hts _ q593) (fun _ h9 => h9) rfl hin2 rfl (by decide +kernel) (hb0) (hb1) (Nat.le_of_ble_eq_true rfl) dX4_init_6 (fun H locs hP hD hS => ?_)
  have hP : va_P D vcl [(a, .inr (11, [.int b, .null]))] H := hP
  have hD : va_D (fun q => q = a) [(a, .inr (11, [.int b, .null]))] := hD
  refine lv_aload_n hx hb dX4_init_9 rfl (lv_at hl 0 rfl) ?_
  refine lv_aload_n hx hb dX4_init_10 rfl (lv_at hl 2 rfl) ?_
  refine va_putF (D := D) (ci := 11) (v := .ref x) (ty := tyX4 1) (C := RX4) (T := TX4) (N := 2) hx hb hts in_X4 tyX4 tyX4_ok nmX4 hown hK hP hD hS 0 rfl rfl 1 (by decide) (hts _ q594) (fun _ h9 => h9) rfl hin2 rfl (by decide +kernel) (rfl) (rfl) (Nat.le_of_ble_eq_true rfl) dX4_init_11 (fun H locs hP hD hS => ?_)
  have hP : va_P D vcl [(a, .inr (11, [.int b, .ref x]))] H := hP
  have hD : va_D (fun q => q = a) [(a, .inr (11, [.int b, .ref x]))] := hD
  exact W.vret hx hb hr (fun t ht hW => ⟨⟨(), rfl, trivial, by show va_P _ _ _ t.heap; rw [ht]; exact hP⟩, hS.F ht⟩) hS.2.2 dX4_init_14 hlk
set_option maxHeartbeats 1000000 in
theorem tX6_init (l : Launch) (D : va_G) (a : Nat) (g : Int32) (x y : Nat) : Met l yX6_init (ws_ yX6_init cX6_init 4 none) { frames := 1, cells := 0, slots := 0, locals := 12 } (va_Pc [.ref a, .int g, .ref x, .ref y] (niP D a 12 [.int 0, .null, .null])) (niQ D a 12 [.int g, .ref x, .ref y]) 0 0 (fun q => q = a) := by
  refine g_entry (by decide) (Nat.le_of_ble_eq_true rfl) ?_
  intro p e s m args below meth c ls hx hb hml hown hts hlk hr hB hl hnm
  obtain ⟨hP, hK⟩ := hB
  have hl : lv_has ls 4 [(0, .ref a), (1, .int g), (2, .ref x), (3, .ref y)] := hl
  have hown : s.vm.findClass RX6 = some m.cls := hown
  have hin2 : meth.name = "<init>" := hnm
  have hD : va_D (fun q => q = a) [(a, .inr (12, [.int 0, .null, .null]))] := vd_1 rfl
  have hS : va_S (fun q => q = a) s.heap s.heap [] := va_S.rf
  refine lv_aload_n hx hb dX6_init_0 rfl (lv_at hl 0 rfl) ?_
  refine W.objInit hx hb hown (hts _ q636) (hts _ q107) (hts _ q108) rfl (by rw [hml]; exact hl.1) rfl dX6_init_1 (Nat.le_of_ble_eq_true rfl) (Nat.le_of_ble_eq_true rfl) ?_
  refine W.eq (g2 := F0 m 4 ls []) rfl ?_
  refine lv_aload_n hx hb dX6_init_4 rfl (lv_at hl 0 rfl) ?_
  refine lv_iload_n hx hb dX6_init_5 rfl (lv_at hl 1 rfl) ?_
  refine va_putF (D := D) (ci := 12) (v := .int g) (ty := tyX6 0) (C := RX6) (T := TX6) (N := 3) hx hb hts in_X6 tyX6 tyX6_ok nmX6 hown hK hP hD hS 0 rfl rfl 0 (by decide) (hts _ q637) (fun _ h9 => h9) rfl hin2 rfl (by decide +kernel) (rfl) (rfl) (Nat.le_of_ble_eq_true rfl) dX6_init_6 (fun H locs hP hD hS => ?_)
  have hP : va_P D vcl [(a, .inr (12, [.int g, .null, .null]))] H := hP
  have hD : va_D (fun q => q = a) [(a, .inr (12, [.int g, .null, .null]))] := hD
  refine lv_aload_n hx hb dX6_init_9 rfl (lv_at hl 0 rfl) ?_
  refine lv_aload_n hx hb dX6_init_10 rfl (lv_at hl 2 rfl) ?_
  refine va_putF (D := D) (ci := 12) (v := .ref x) (ty := tyX6 1) (C := RX6) (T := TX6) (N := 3) hx hb hts in_X6 tyX6 tyX6_ok nmX6 hown hK hP hD hS 0 rfl rfl 1 (by decide) (hts _ q638) (fun _ h9 => h9) rfl hin2 rfl (by decide +kernel) (rfl) (rfl) (Nat.le_of_ble_eq_true rfl) dX6_init_11 (fun H locs hP hD hS => ?_)
  have hP : va_P D vcl [(a, .inr (12, [.int g, .ref x, .null]))] H := hP
  have hD : va_D (fun q => q = a) [(a, .inr (12, [.int g, .ref x, .null]))] := hD
  refine lv_aload_n hx hb dX6_init_14 rfl (lv_at hl 0 rfl) ?_
  refine lv_aload_n hx hb dX6_init_15 rfl (lv_at hl 3 rfl) ?_
  refine va_putF (D := D) (ci := 12) (v := .ref y) (ty := tyX6 2) (C := RX6) (T := TX6) (N := 3) hx hb hts in_X6 tyX6 tyX6_ok nmX6 hown hK hP hD hS 0 rfl rfl 2 (by decide) (hts _ q639) (fun _ h9 => h9) rfl hin2 rfl (by decide +kernel) (rfl) (rfl) (Nat.le_of_ble_eq_true rfl) dX6_init_16 (fun H locs hP hD hS => ?_)
  have hP : va_P D vcl [(a, .inr (12, [.int g, .ref x, .ref y]))] H := hP
  have hD : va_D (fun q => q = a) [(a, .inr (12, [.int g, .ref x, .ref y]))] := hD
  exact W.vret hx hb hr (fun t ht hW => ⟨⟨(), rfl, trivial, by show va_P _ _ _ t.heap; rw [ht]; exact hP⟩, hS.F ht⟩) hS.2.2 dX6_init_19 hlk
