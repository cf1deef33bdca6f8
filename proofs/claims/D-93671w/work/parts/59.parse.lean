/-! ===== the parse methods; by gen/rd5.py ===== -/
set_option maxRecDepth 100000
def cdT (ρ : tR) : Option Int32 := if ρ.2.2.2.2.2 = 42 then some 18 else none
def cdS (ρ : tR) : Option Int32 := if ρ.2.2.2.2.2 = 43 then some 16 else if ρ.2.2.2.2.2 = 45 then some 17 else none
def cdB (ρ : tR) : Option Int32 := if ρ.2.2.2.1 = some anB then some 12 else none
def cdE (ρ : tR) : Option Int32 := if ρ.2.2.2.1 = some orB then some 11 else none
def lpL (tp : Nat → Int32) (n : Nat) (sub : tR → pRes) (cd : tR → Option Int32) : Nat → List Int32 → tR → pRes
  | 0, _, _ => .inl 0
  | f + 1, c, ρ => match cd ρ with
    | none => .inr (c, ρ)
    | some op => match sNext tp n ρ with
      | .inl p => .inl p
      | .inr ρ1 => match sub ρ1 with
        | .inl p => .inl p
        | .inr q => lpL tp n sub cd f (c ++ q.1 ++ [op]) q.2
def sLp (tp : Nat → Int32) (n : Nat) (sub : tR → pRes) (cd : tR → Option Int32) (ρ : tR) : pRes := match sub ρ with
  | .inl p => .inl p
  | .inr q => lpL tp n sub cd (n + 1) q.1 q.2
def nmI (w : Option (List Int32)) : Nat → Nat → Option Nat
  | 0, _ => none
  | f + 1, k => if w = some (nmB k) then some k else nmI w f (k + 1)
def opd (ρ : tR) : tR := (ρ.1, ρ.2.1, ρ.2.2.1 - 1, ρ.2.2.2)
def sOne (tp : Nat → Int32) (n : Nat) (one either : tR → pRes) (ρ : tR) : pRes :=
  if ρ.2.2.2.2.2 = 45 then match sOpens tp n ρ with
    | .inl p => .inl p
    | .inr ρ1 => match one ρ1 with
      | .inl p => .inl p
      | .inr q => .inr (q.1 ++ [19], opd q.2)
  else if ρ.2.2.2.2.2 = 40 then match sOpens tp n ρ with
    | .inl p => .inl p
    | .inr ρ1 => match either ρ1 with
      | .inl p => .inl p
      | .inr q => if q.2.2.2.2.2.2 = 41 then (match sNext tp n (opd q.2) with
          | .inl p => .inl p
          | .inr ρ3 => .inr (q.1, ρ3)) else .inl q.2.2.1
  else if ¬ ρ.2.2.2.2.1 = -1 then match sNext tp n ρ with
    | .inl p => .inl p
    | .inr ρ1 => .inr ([100000 + ρ.2.2.2.2.1], ρ1)
  else match nmI ρ.2.2.2.1 6 0 with
    | none => .inl ρ.2.1
    | some k => match sNext tp n ρ with
      | .inl p => .inl p
      | .inr ρ1 => .inr ([nI k], ρ1)
def sNot (tp : Nat → Int32) (n : Nat) (nt sm : tR → pRes) (ρ : tR) : pRes :=
  if ρ.2.2.2.1 = some ntB then match sOpens tp n ρ with
    | .inl p => .inl p
    | .inr ρ1 => match nt ρ1 with
      | .inl p => .inl p
      | .inr q => .inr (q.1 ++ [13], opd q.2)
  else match sm ρ with
    | .inl p => .inl p
    | .inr q => if q.2.2.2.2.2.2 = 60 ∨ q.2.2.2.2.2.2 = 61 then (match sNext tp n q.2 with
        | .inl p => .inl p
        | .inr ρ2 => match sm ρ2 with
          | .inl p => .inl p
          | .inr q2 => .inr (q.1 ++ q2.1 ++ [if q.2.2.2.2.2.2 = 60 then 14 else 15], q2.2)) else .inr q
/-- the three that call themselves, by how often may still be opened -/
def lev (tp : Nat → Int32) (n : Nat) : Nat → (tR → pRes) × (tR → pRes) × (tR → pRes)
  | 0 => (fun _ => .inl 0, fun _ => .inl 0, fun _ => .inl 0)
  | d + 1 => (sOne tp n (lev tp n d).1 (lev tp n d).2.2, sNot tp n (lev tp n d).2.1 (sLp tp n (sLp tp n (sOne tp n (lev tp n d).1 (lev tp n d).2.2) cdT) cdS),
      sLp tp n (sLp tp n (sNot tp n (lev tp n d).2.1 (sLp tp n (sLp tp n (sOne tp n (lev tp n d).1 (lev tp n d).2.2) cdT) cdS)) cdB) cdE)
def pMet (l : Launch) (y : MethodName) (cc : ByteArray) (nL fr lo d : Nat) (sp : (Nat → Int32) → Nat → tR → pRes) : Prop := ∀ (D : va_G) (r tx cB NN : Nat) (tp : Nat → Int32) (n : Nat) (ρ : tR) (Nn : Nat → Option va_E) (sz : Nat), n ≤ NN → NN < 2 ^ 31 → r ≠ tx → rInv n ρ → ρ.2.2.1 + d = 5 →
  xMet l y (ws_ y cc nL (some (.object "GateRoad$Node"))) { frames := fr, cells := 5 * (n - ρ.2.1) + 1, slots := 36 * (n - ρ.2.1) + 7, locals := lo } (va_Pc [.ref r] (pB D r tx cB NN tp n ρ Nn sz)) (prQ D r tx cB NN tp n sz ρ Nn (sp tp n ρ)) (5 * (n - ρ.2.1) + 1) (36 * (n - ρ.2.1) + 7) (rA r tx sz)
theorem lpL_end {tp : Nat → Int32} {n : Nat} {sub : tR → pRes} {cd : tR → Option Int32} {f : Nat} {c : List Int32} {ρ : tR} (h : cd ρ = none) : lpL tp n sub cd (f + 1) c ρ = .inr (c, ρ) := by simp only [lpL, h]
theorem lpL_nx {tp : Nat → Int32} {n : Nat} {sub : tR → pRes} {cd : tR → Option Int32} {f : Nat} {c : List Int32} {ρ : tR} {op : Int32} {p : Nat} (h : cd ρ = some op) (h2 : sNext tp n ρ = .inl p) : lpL tp n sub cd (f + 1) c ρ = .inl p := by simp only [lpL, h, h2]
theorem lpL_sub {tp : Nat → Int32} {n : Nat} {sub : tR → pRes} {cd : tR → Option Int32} {f : Nat} {c : List Int32} {ρ ρ1 : tR} {op : Int32} {p : Nat} (h : cd ρ = some op) (h2 : sNext tp n ρ = .inr ρ1) (h3 : sub ρ1 = .inl p) : lpL tp n sub cd (f + 1) c ρ = .inl p := by simp only [lpL, h, h2, h3]
theorem lpL_go {tp : Nat → Int32} {n : Nat} {sub : tR → pRes} {cd : tR → Option Int32} {f : Nat} {c c2 : List Int32} {ρ ρ1 ρ2 : tR} {op : Int32} (h : cd ρ = some op) (h2 : sNext tp n ρ = .inr ρ1) (h3 : sub ρ1 = .inr (c2, ρ2)) : lpL tp n sub cd (f + 1) c ρ = lpL tp n sub cd f (c ++ c2 ++ [op]) ρ2 := by simp only [lpL, h, h2, h3]
theorem idA_at (a : Nat) : idA (200 + a) = a := by show 200 + a - 200 = a; omega
theorem nUp_at {N : Nat → Option va_E} {a : Nat} {x : va_E} : nUp N a x a = some x := by simp [nUp]
theorem nUp_mono {N : Nat → Option va_E} {a : Nat} {x : va_E} (h : N a = none) : ∀ q y, N q = some y → nUp N a x q = some y := fun q y hq => (nExt.up (sz := 0) h (Nat.zero_le _)).1 q y hq
theorem cTr_two {N : Nat → Option va_E} {d1 d2 d q a b : Nat} {c1 c2 : List Int32} {sg op : Int32} (hN : N q = none) (h1 : cTr N idA d1 a c1) (h2 : cTr N idA d2 b c2) (ho : cOp sg op) (g1 : d1 < d) (g2 : d2 < d) : cTr (nUp N q (.inr (12, [.int sg, .ref a, .ref b]))) idA d q (c1 ++ c2 ++ [op]) := by
  obtain ⟨d, rfl⟩ : ∃ e, d = e + 1 := ⟨d - 1, by omega⟩
  exact Or.inr (Or.inr ⟨sg, op, a, b, c1, c2, by rw [nUp_at, idA_at, idA_at], cTr_mono (nUp_mono hN) _ _ _ _ (by omega) h1, cTr_mono (nUp_mono hN) _ _ _ _ (by omega) h2, ho, rfl⟩)
theorem cTr_one {N : Nat → Option va_E} {d1 d q a : Nat} {c1 : List Int32} {b op : Int32} (hN : N q = none) (h1 : cTr N idA d1 a c1) (ho : (b = 1 ∧ op = 13) ∨ (b = 0 ∧ op = 19)) (g1 : d1 < d) : cTr (nUp N q (.inr (11, [.int b, .ref a]))) idA d q (c1 ++ [op]) := by
  obtain ⟨d, rfl⟩ : ∃ e, d = e + 1 := ⟨d - 1, by omega⟩
  refine Or.inr (Or.inl ⟨b, a, c1, by rw [nUp_at, idA_at], cTr_mono (nUp_mono hN) _ _ _ _ (by omega) h1, ?_⟩)
  rcases ho with ⟨h, h2⟩ | ⟨h, h2⟩
  · exact Or.inl ⟨h, by rw [h2]⟩
  · exact Or.inr ⟨h, by rw [h2]⟩
set_option maxHeartbeats 2000000 in
theorem tX2_term (l : Launch) (d fr lo : Nat) (sp : (Nat → Int32) → Nat → tR → pRes) (hsub : pMet l yX2_one cX2_one 2 fr lo d sp) (hfr : 10 ≤ fr) (hlo : 240 ≤ lo) : pMet l yX2_term cX2_term 2 (fr + 1) (lo + 22) d (fun tp n => sLp tp n (sp tp n) cdT) := by
  intro D r tx cB NN tp n ρ Nn sz hn hN hne hi ho
  refine xg_entry (by decide) (Nat.le_of_ble_eq_true rfl) ?_
  intro p e s m args below meth c ls hx hb hml hown hts hlk hr0 hB hl hno
  obtain ⟨⟨hsz, hE, hK, hKc⟩, hNn⟩ := hB
  subst hsz
  have hown : s.vm.findClass RX2 = some m.cls := hown
  have hl : lv_has ls 2 [(0, .ref r)] := hl
  have X : rX p s m args meth c cX2_term 2 D r tx cB NN n := ⟨hx, hb, hml, hown, hts, hlk, hno, hK, hKc, hne, hn, hN⟩
  have Y : rY D r tx cB NN tp n s (fun q => q = r) ρ Nn s.heap [] := ⟨hE, va_S.rf, hNn, rfl⟩
  have hrs : r < s.heap.size := by obtain ⟨w9, h9, -⟩ := hE; exact (h9 0 _ rfl).lt
  have hts9 : tx < s.heap.size := by obtain ⟨w9, h9, -⟩ := hE; exact (h9 1 _ rfl).lt
  have hi1 := hi.1
  have hi2 := hi.2.1
  have LP : ∀ (f : Nat) (cd : List Int32) (ρ1 : tR) (a : Nat) (N1 : Nat → Option va_E) (E1 : Nat → Prop) (H : Heap) (locs : List Loc) (ls : Array Slot) (σ : pRes), n < ρ1.2.1 + f → ρ.2.1 < ρ1.2.1 → rInv n ρ1 → ρ1.2.2.1 = ρ.2.2.1 → rY D r tx cB NN tp n s E1 ρ1 N1 H locs → (∀ q, q < s.heap.size → E1 q) → nExt Nn N1 s.heap.size → cTr N1 idA (ρ1.2.1 - ρ.2.1) a cd → lv_has ls 2 [(1, .ref a), (0, .ref r)] → σ = lpL tp n (sp tp n) cdT f cd ρ1 →
      W p l e { frames := fr + 1, cells := 5 * (n - ρ.2.1) + 1, slots := 36 * (n - ρ.2.1) + 7, locals := lo + 22 } s m args below meth c H locs (5 * (ρ1.2.1 - ρ.2.1)) (36 * (ρ1.2.1 - ρ.2.1)) (xMQ below (prQ D r tx cB NN tp n s.heap.size ρ Nn σ) args s (5 * (n - ρ.2.1) + 1) (36 * (n - ρ.2.1) + 7) (rA r tx s.heap.size)) (F0 m 5 ls []) := by
    intro f
    induction f with
    | zero =>
      intro cd ρ1 a N1 E1 H locs ls σ h1 h2 i1
      have := i1.1
      have := i1.2.1
      exact absurd h1 (by omega)
    | succ f ih =>
      intro cd ρ1 a N1 E1 H locs ls σ h1 h2 i1 i3 Y1 hE1 hext hT hl eσ
      have i11 := i1.1
      have i12 := i1.2.1
      refine lv_aload_n hx hb dX2_term_5 rfl (lv_at hl 1 rfl) ?_
      refine lv_bipush (v := 42) hx hb dX2_term_6 (by decide) ?_
      by_cases hg : ρ1.2.2.2.2.2 = 42
      · have hlt : ρ1.2.1 < ρ1.1 := i1.2.2.1 (Or.inr (Or.inr (by rw [hg]; decide)))
        refine rd_nx X Y1 (x_runV (C := RX2) (As := [.int 42]) (rest := []) ⟨hx, hb, hml, hown, hts⟩ (tX2_takesY l D r tx cB NN tp n ρ1 H.size hn hN i12 hne 42 hg) (cwV 1 hts (lw_V q627 q629 qs12 q73 q630) rfl rfl rfl (by decide +kernel) ⟨by show 7 + 1 ≤ fr + 1; omega, by show 8 + (2 + 11) + 196 ≤ lo + 22; omega⟩) (rd_pre X Y1) rfl rfl hl.1 rfl (lv_room (Nat.le_of_ble_eq_true rfl)) dX2_term_8 ⟨by show 5 * (ρ1.2.1 - ρ.2.1) + 4 ≤ 5 * (n - ρ.2.1) + 1; omega, by show 36 * (ρ1.2.1 - ρ.2.1) + 33 ≤ 36 * (n - ρ.2.1) + 7; omega⟩) (by omega) (by omega) (fun pl t a0 L g1 g2 g3 g4 g5 g6 => ?_) (fun ρ2 H1 locs1 g1 Y2 hz1 hk1 => ?_)
        · obtain ⟨j1, j2⟩ := sNext_inl i12 g1
          exact ⟨g4, Or.inr ⟨pl, a0, L, by rw [eσ]; exact lpL_nx (if_pos hg) g1, rfl, ⟨by omega, j2⟩, g2, g3, g5.mono (by omega) (by omega), g6⟩⟩
        · obtain ⟨j1, i2, j3⟩ := sNext_inr i12 g1
          have i21 := i2.1
          have i22 := i2.2.1
          refine lv_if_eq (tgt := 32) hx hb dX2_term_11 (by decide) (fun h9 => absurd h9 (by decide)) (fun _ => ?_)
          refine rd_newT X Y2 ⟨by show 5 * (ρ1.2.1 - ρ.2.1) + 4 + 1 ≤ 5 * (n - ρ.2.1) + 1; omega, by show 36 * (ρ1.2.1 - ρ.2.1) + 33 + 3 ≤ 36 * (n - ρ.2.1) + 7; omega⟩ dX2_term_14 (fun q2 H2 Y3 hU hq2 hN2 hlt2 => ?_)
          refine lv_dup hx hb dX2_term_17 rfl ?_
          refine lv_bipush (v := 42) hx hb dX2_term_18 (by decide) ?_
          refine lv_aload_n hx hb dX2_term_20 rfl (lv_at hl 0 rfl) ?_
          refine lv_aload_n hx hb dX2_term_21 rfl (lv_at hl 1 rfl) ?_
          have hz2 : s.heap.size ≤ H2.size := Y3.2.1.1
          have hz10 : s.heap.size ≤ H1.size := Y2.2.1.1
          refine rd_pr X Y3 (x_runV (C := RX2) (As := []) (rest := [.ref a, .int 42, .ref q2, .ref q2]) ⟨hx, hb, hml, hown, hts⟩ (hsub D r tx cB NN tp n ρ2 N1 H2.size hn hN hne i2 (by omega)) (cwV 0 hts (lw_V q608 q610 qs11 q73 q611) rfl rfl rfl (by decide +kernel) ⟨by show fr + 1 ≤ fr + 1; omega, by show 8 + (2 + 11) + lo ≤ lo + 22; omega⟩) (rp_pre X Y3) rfl rfl hl.1 rfl (lv_room (Nat.le_of_ble_eq_true rfl)) dX2_term_22 ⟨by show 5 * (ρ1.2.1 - ρ.2.1) + 4 + 1 + (5 * (n - ρ2.2.1) + 1) ≤ 5 * (n - ρ.2.1) + 1; omega, by show 36 * (ρ1.2.1 - ρ.2.1) + 33 + 3 + (36 * (n - ρ2.2.1) + 7) ≤ 36 * (n - ρ.2.1) + 7; omega⟩) (by omega) (by omega) (fun pl t a0 L k1 k2 k3 k4 k5 k6 k7 k8 => ?_) (fun cd2 ρ3 a2 N2 H3 locs3 k1 k2 k3 k4 Y4 kext kT kz kk => ?_)
          · exact ⟨k6, Or.inr ⟨pl, a0, L, by rw [eσ]; exact lpL_sub (if_pos hg) g1 k1, rfl, ⟨by omega, k3⟩, k4, k5, k7.mono (by omega) (by omega), k8⟩⟩
          · have k31 := k3.1
            have k32 := k3.2.1
            have hq2n : N2 q2 = none := by
              cases hc : N2 q2 with
              | none => rfl
              | some x => exact absurd (kext.2 q2 hN2 (by rw [hc]; exact fun z => by cases z)) (by omega)
            have hU3 : va_P D vcl [(q2, .inr (12, [.int 0, .null, .null]))] H3 := hU.kept (fun k q hq => by
              match k, hq with
              | 0, hq => cases hq; exact kk _ hlt2 (fun z => absurd (show q2 = r from z) (by omega)) (fun z => absurd (show q2 = tx from z) (by omega)))
            refine rd_initT X Y4 hU3 hq2n (by omega) hlt2 hrs hts9 ⟨by show 2 ≤ fr + 1; omega, by show 35 ≤ lo + 22; omega⟩ ⟨by show 5 * (ρ1.2.1 - ρ.2.1) + 4 + 1 + 5 * (ρ3.2.1 - ρ2.2.1) ≤ 5 * (n - ρ.2.1) + 1; omega, by show 36 * (ρ1.2.1 - ρ.2.1) + 33 + 3 + 36 * (ρ3.2.1 - ρ2.2.1) ≤ 36 * (n - ρ.2.1) + 7; omega⟩ hl.1 (Nat.le_of_ble_eq_true rfl) dX2_term_25 (fun H4 locs4 Y5 => ?_)
            refine lv_astore_n (lv' := [(1, .ref q2), (0, .ref r)]) hx hb dX2_term_28 rfl hl (by decide) rfl (fun ls hl => ?_)
            refine lv_goto (tgt := 5) hx hb dX2_term_29 (by decide) ?_
            refine W.widen (k := 5 * (ρ3.2.1 - ρ.2.1)) (n := 36 * (ρ3.2.1 - ρ.2.1)) (by omega) (by omega) ?_
            exact ih _ ρ3 q2 _ _ H4 locs4 ls σ (by omega) (by omega) k3 (by omega) Y5 (fun q h => Nat.lt_of_lt_of_le h hz2) ((hext.trans kext hz2).trans (nExt.up hq2n (by omega)) (Nat.le_refl _)) (cTr_two hq2n (cTr_mono kext.1 _ _ _ _ (Nat.le_refl _) hT) kT (Or.inr (Or.inr (Or.inl ⟨rfl, rfl⟩))) (by omega) (by omega)) (lv_sub hl [0, 1] rfl) (by rw [eσ]; exact lpL_go (if_pos hg) g1 k1)
      · refine rd_takesN X Y1 hg ⟨by show 1 ≤ fr + 1; omega, by show 21 ≤ lo + 22; omega⟩ ⟨by show 5 * (ρ1.2.1 - ρ.2.1) ≤ 5 * (n - ρ.2.1) + 1; omega, by show 36 * (ρ1.2.1 - ρ.2.1) ≤ 36 * (n - ρ.2.1) + 7; omega⟩ hl.1 (Nat.le_of_ble_eq_true rfl) dX2_term_8 ?_
        refine lv_if_eq (tgt := 32) hx hb dX2_term_11 (by decide) (fun _ => ?_) (fun h9 => absurd rfl h9)
        refine lv_aload_n hx hb dX2_term_32 rfl (lv_at hl 0 rfl) ?_
        exact rd_ret X Y1 hE1 hr0 (by rw [eσ]; exact lpL_end (if_neg hg)) h2 i1 i3 hext hT (Nat.le_refl _) (Nat.le_refl _) (Nat.le_refl _) (by omega) (by omega) dX2_term_33
  refine lv_aload_n hx hb dX2_term_0 rfl (lv_at hl 0 rfl) ?_
  refine rd_pr X Y (x_runV (C := RX2) (As := []) (rest := []) ⟨hx, hb, hml, hown, hts⟩ (hsub D r tx cB NN tp n ρ Nn s.heap.size hn hN hne hi ho) (cwV 0 hts (lw_V q608 q610 qs11 q73 q611) rfl rfl rfl (by decide +kernel) ⟨by show fr + 1 ≤ fr + 1; omega, by show 8 + (2 + 11) + lo ≤ lo + 22; omega⟩) (rp_pre X Y) rfl rfl hl.1 rfl (lv_room (Nat.le_of_ble_eq_true rfl)) dX2_term_1 ⟨by show 0 + (5 * (n - ρ.2.1) + 1) ≤ 5 * (n - ρ.2.1) + 1; omega, by show 0 + (36 * (n - ρ.2.1) + 7) ≤ 36 * (n - ρ.2.1) + 7; omega⟩) (by omega) (by omega) (fun pl t a0 L k1 k2 k3 k4 k5 k6 k7 k8 => ?_) (fun cd ρ1 a N1 H1 locs1 k1 k2 k3 k4 Y1 kext kT kz kk => ?_)
  · exact ⟨k6, Or.inr ⟨pl, a0, L, by simp only [sLp, k1], rfl, ⟨k2, k3⟩, k4, k5, k7.mono (by omega) (by omega), k8⟩⟩
  · have k31 := k3.1
    have k32 := k3.2.1
    refine lv_astore_n (lv' := [(1, .ref a), (0, .ref r)]) hx hb dX2_term_4 rfl hl (by decide) rfl (fun ls hl => ?_)
    refine W.widen (k := 5 * (ρ1.2.1 - ρ.2.1)) (n := 36 * (ρ1.2.1 - ρ.2.1)) (by omega) (by omega) ?_
    exact LP (n + 1) cd ρ1 a N1 _ H1 locs1 ls _ (by omega) k2 k3 k4 Y1 (fun q h => h) kext kT hl (by simp only [sLp, k1])
set_option maxHeartbeats 2000000 in
theorem tX2_sum (l : Launch) (d fr lo : Nat) (sp : (Nat → Int32) → Nat → tR → pRes) (hsub : pMet l yX2_term cX2_term 2 fr lo d sp) (hfr : 10 ≤ fr) (hlo : 240 ≤ lo) : pMet l yX2_sum cX2_sum 3 (fr + 1) (lo + 22) d (fun tp n => sLp tp n (sp tp n) cdS) := by
  intro D r tx cB NN tp n ρ Nn sz hn hN hne hi ho
  refine xg_entry (by decide) (Nat.le_of_ble_eq_true rfl) ?_
  intro p e s m args below meth c ls hx hb hml hown hts hlk hr0 hB hl hno
  obtain ⟨⟨hsz, hE, hK, hKc⟩, hNn⟩ := hB
  subst hsz
  have hown : s.vm.findClass RX2 = some m.cls := hown
  have hl : lv_has ls 3 [(0, .ref r)] := hl
  have X : rX p s m args meth c cX2_sum 3 D r tx cB NN n := ⟨hx, hb, hml, hown, hts, hlk, hno, hK, hKc, hne, hn, hN⟩
  have Y : rY D r tx cB NN tp n s (fun q => q = r) ρ Nn s.heap [] := ⟨hE, va_S.rf, hNn, rfl⟩
  have hrs : r < s.heap.size := by obtain ⟨w9, h9, -⟩ := hE; exact (h9 0 _ rfl).lt
  have hts9 : tx < s.heap.size := by obtain ⟨w9, h9, -⟩ := hE; exact (h9 1 _ rfl).lt
  have hi1 := hi.1
  have hi2 := hi.2.1
  have LP : ∀ (f : Nat) (cd : List Int32) (ρ1 : tR) (a : Nat) (N1 : Nat → Option va_E) (E1 : Nat → Prop) (H : Heap) (locs : List Loc) (ls : Array Slot) (σ : pRes), n < ρ1.2.1 + f → ρ.2.1 < ρ1.2.1 → rInv n ρ1 → ρ1.2.2.1 = ρ.2.2.1 → rY D r tx cB NN tp n s E1 ρ1 N1 H locs → (∀ q, q < s.heap.size → E1 q) → nExt Nn N1 s.heap.size → cTr N1 idA (ρ1.2.1 - ρ.2.1) a cd → lv_has ls 3 [(1, .ref a), (0, .ref r)] → σ = lpL tp n (sp tp n) cdS f cd ρ1 →
      W p l e { frames := fr + 1, cells := 5 * (n - ρ.2.1) + 1, slots := 36 * (n - ρ.2.1) + 7, locals := lo + 22 } s m args below meth c H locs (5 * (ρ1.2.1 - ρ.2.1)) (36 * (ρ1.2.1 - ρ.2.1)) (xMQ below (prQ D r tx cB NN tp n s.heap.size ρ Nn σ) args s (5 * (n - ρ.2.1) + 1) (36 * (n - ρ.2.1) + 7) (rA r tx s.heap.size)) (F0 m 5 ls []) := by
    intro f
    induction f with
    | zero =>
      intro cd ρ1 a N1 E1 H locs ls σ h1 h2 i1
      have := i1.1
      have := i1.2.1
      exact absurd h1 (by omega)
    | succ f ih =>
      intro cd ρ1 a N1 E1 H locs ls σ h1 h2 i1 i3 Y1 hE1 hext hT hl eσ
      have i11 := i1.1
      have i12 := i1.2.1
      have GO : ∀ op : Int32, cdS ρ1 = some op → cOp ρ1.2.2.2.2.2 op → ρ1.2.1 < ρ1.1 → W p l e { frames := fr + 1, cells := 5 * (n - ρ.2.1) + 1, slots := 36 * (n - ρ.2.1) + 7, locals := lo + 22 } s m args below meth c H locs (5 * (ρ1.2.1 - ρ.2.1)) (36 * (ρ1.2.1 - ρ.2.1)) (xMQ below (prQ D r tx cB NN tp n s.heap.size ρ Nn σ) args s (5 * (n - ρ.2.1) + 1) (36 * (n - ρ.2.1) + 7) (rA r tx s.heap.size)) (F0 m 23 ls []) := by
        intro op hcd hop hlt
        refine lv_aload_n hx hb dX2_sum_23 rfl (lv_at hl 1 rfl) ?_
        refine rg_sign X Y1 dX2_sum_24 ?_
        refine lv_istore_n (lv' := [(2, .int ρ1.2.2.2.2.2), (1, .ref a), (0, .ref r)]) hx hb dX2_sum_27 rfl hl (by decide) rfl (fun ls hl => ?_)
        refine lv_aload_n hx hb dX2_sum_28 rfl (lv_at hl 2 rfl) ?_
        refine rd_nx X Y1 (x_runV (C := RX2) (As := []) (rest := []) ⟨hx, hb, hml, hown, hts⟩ (tX2_next l D r tx cB NN tp n ρ1 H.size hn hN i12 hne) (cwV 0 hts (lw_V q252 q254 qs0 q73 q255) rfl rfl rfl (by decide +kernel) ⟨by show 6 + 1 ≤ fr + 1; omega, by show 8 + (2 + 11) + 175 ≤ lo + 22; omega⟩) (rd_pre X Y1) rfl rfl hl.1 rfl (lv_room (Nat.le_of_ble_eq_true rfl)) dX2_sum_29 ⟨by show 5 * (ρ1.2.1 - ρ.2.1) + 4 ≤ 5 * (n - ρ.2.1) + 1; omega, by show 36 * (ρ1.2.1 - ρ.2.1) + 33 ≤ 36 * (n - ρ.2.1) + 7; omega⟩) (by omega) (by omega) (fun pl t a0 L g1 g2 g3 g4 g5 g6 => ?_) (fun ρ2 H1 locs1 g1 Y2 hz1 hk1 => ?_)
        · obtain ⟨j1, j2⟩ := sNext_inl i12 g1
          exact ⟨g4, Or.inr ⟨pl, a0, L, by rw [eσ]; exact lpL_nx hcd g1, rfl, ⟨by omega, j2⟩, g2, g3, g5.mono (by omega) (by omega), g6⟩⟩
        · obtain ⟨j1, i2, j3⟩ := sNext_inr i12 g1
          have i21 := i2.1
          have i22 := i2.2.1
          refine rd_newT X Y2 ⟨by show 5 * (ρ1.2.1 - ρ.2.1) + 4 + 1 ≤ 5 * (n - ρ.2.1) + 1; omega, by show 36 * (ρ1.2.1 - ρ.2.1) + 33 + 3 ≤ 36 * (n - ρ.2.1) + 7; omega⟩ dX2_sum_32 (fun q2 H2 Y3 hU hq2 hN2 hlt2 => ?_)
          refine lv_dup hx hb dX2_sum_35 rfl ?_
          refine lv_iload_n hx hb dX2_sum_36 rfl (lv_at hl 0 rfl) ?_
          refine lv_aload_n hx hb dX2_sum_37 rfl (lv_at hl 1 rfl) ?_
          refine lv_aload_n hx hb dX2_sum_38 rfl (lv_at hl 2 rfl) ?_
          have hz2 : s.heap.size ≤ H2.size := Y3.2.1.1
          have hz10 : s.heap.size ≤ H1.size := Y2.2.1.1
          refine rd_pr X Y3 (x_runV (C := RX2) (As := []) (rest := [.ref a, .int ρ1.2.2.2.2.2, .ref q2, .ref q2]) ⟨hx, hb, hml, hown, hts⟩ (hsub D r tx cB NN tp n ρ2 N1 H2.size hn hN hne i2 (by omega)) (cwV 0 hts (lw_V q604 q606 qs10 q73 q607) rfl rfl rfl (by decide +kernel) ⟨by show fr + 1 ≤ fr + 1; omega, by show 8 + (2 + 11) + lo ≤ lo + 22; omega⟩) (rp_pre X Y3) rfl rfl hl.1 rfl (lv_room (Nat.le_of_ble_eq_true rfl)) dX2_sum_39 ⟨by show 5 * (ρ1.2.1 - ρ.2.1) + 4 + 1 + (5 * (n - ρ2.2.1) + 1) ≤ 5 * (n - ρ.2.1) + 1; omega, by show 36 * (ρ1.2.1 - ρ.2.1) + 33 + 3 + (36 * (n - ρ2.2.1) + 7) ≤ 36 * (n - ρ.2.1) + 7; omega⟩) (by omega) (by omega) (fun pl t a0 L k1 k2 k3 k4 k5 k6 k7 k8 => ?_) (fun cd2 ρ3 a2 N2 H3 locs3 k1 k2 k3 k4 Y4 kext kT kz kk => ?_)
          · exact ⟨k6, Or.inr ⟨pl, a0, L, by rw [eσ]; exact lpL_sub hcd g1 k1, rfl, ⟨by omega, k3⟩, k4, k5, k7.mono (by omega) (by omega), k8⟩⟩
          · have k31 := k3.1
            have k32 := k3.2.1
            have hq2n : N2 q2 = none := by
              cases hc : N2 q2 with
              | none => rfl
              | some x => exact absurd (kext.2 q2 hN2 (by rw [hc]; exact fun z => by cases z)) (by omega)
            have hU3 : va_P D vcl [(q2, .inr (12, [.int 0, .null, .null]))] H3 := hU.kept (fun k q hq => by
              match k, hq with
              | 0, hq => cases hq; exact kk _ hlt2 (fun z => absurd (show q2 = r from z) (by omega)) (fun z => absurd (show q2 = tx from z) (by omega)))
            refine rd_initT X Y4 hU3 hq2n (by omega) hlt2 hrs hts9 ⟨by show 2 ≤ fr + 1; omega, by show 35 ≤ lo + 22; omega⟩ ⟨by show 5 * (ρ1.2.1 - ρ.2.1) + 4 + 1 + 5 * (ρ3.2.1 - ρ2.2.1) ≤ 5 * (n - ρ.2.1) + 1; omega, by show 36 * (ρ1.2.1 - ρ.2.1) + 33 + 3 + 36 * (ρ3.2.1 - ρ2.2.1) ≤ 36 * (n - ρ.2.1) + 7; omega⟩ hl.1 (Nat.le_of_ble_eq_true rfl) dX2_sum_42 (fun H4 locs4 Y5 => ?_)
            refine lv_astore_n (lv' := [(1, .ref q2), (2, .int ρ1.2.2.2.2.2), (0, .ref r)]) hx hb dX2_sum_45 rfl hl (by decide) rfl (fun ls hl => ?_)
            refine lv_goto (tgt := 5) hx hb dX2_sum_46 (by decide) ?_
            refine W.widen (k := 5 * (ρ3.2.1 - ρ.2.1)) (n := 36 * (ρ3.2.1 - ρ.2.1)) (by omega) (by omega) ?_
            exact ih _ ρ3 q2 _ _ H4 locs4 ls σ (by omega) (by omega) k3 (by omega) Y5 (fun q h => Nat.lt_of_lt_of_le h hz2) ((hext.trans kext hz2).trans (nExt.up hq2n (by omega)) (Nat.le_refl _)) (cTr_two hq2n (cTr_mono kext.1 _ _ _ _ (Nat.le_refl _) hT) kT hop (by omega) (by omega)) (lv_sub hl [0, 2] rfl) (by rw [eσ]; exact lpL_go hcd g1 k1)
      refine lv_aload_n hx hb dX2_sum_5 rfl (lv_at hl 1 rfl) ?_
      refine rg_sign X Y1 dX2_sum_6 ?_
      refine lv_bipush (v := 43) hx hb dX2_sum_9 (by decide) ?_
      refine lv_icmp_eq (tgt := 23) hx hb dX2_sum_11 (by decide) (fun hg => ?_) (fun hg => ?_)
      · exact GO 16 (if_pos hg) (Or.inl ⟨hg, rfl⟩) (i1.2.2.1 (Or.inr (Or.inr (by rw [hg]; decide))))
      refine lv_aload_n hx hb dX2_sum_14 rfl (lv_at hl 1 rfl) ?_
      refine rg_sign X Y1 dX2_sum_15 ?_
      refine lv_bipush (v := 45) hx hb dX2_sum_18 (by decide) ?_
      refine lv_icmp_ne (tgt := 49) hx hb dX2_sum_20 (by decide) (fun hg2 => ?_) (fun hg2 => ?_)
      · refine lv_aload_n hx hb dX2_sum_49 rfl (lv_at hl 0 rfl) ?_
        exact rd_ret X Y1 hE1 hr0 (by rw [eσ]; exact lpL_end (by unfold cdS; rw [if_neg hg, if_neg hg2])) h2 i1 i3 hext hT (Nat.le_refl _) (Nat.le_refl _) (Nat.le_refl _) (by omega) (by omega) dX2_sum_50
      · exact GO 17 (by unfold cdS; rw [if_neg hg, if_pos hg2]) (Or.inr (Or.inl ⟨hg2, rfl⟩)) (i1.2.2.1 (Or.inr (Or.inr (by rw [hg2]; decide))))
  refine lv_aload_n hx hb dX2_sum_0 rfl (lv_at hl 0 rfl) ?_
  refine rd_pr X Y (x_runV (C := RX2) (As := []) (rest := []) ⟨hx, hb, hml, hown, hts⟩ (hsub D r tx cB NN tp n ρ Nn s.heap.size hn hN hne hi ho) (cwV 0 hts (lw_V q604 q606 qs10 q73 q607) rfl rfl rfl (by decide +kernel) ⟨by show fr + 1 ≤ fr + 1; omega, by show 8 + (2 + 11) + lo ≤ lo + 22; omega⟩) (rp_pre X Y) rfl rfl hl.1 rfl (lv_room (Nat.le_of_ble_eq_true rfl)) dX2_sum_1 ⟨by show 0 + (5 * (n - ρ.2.1) + 1) ≤ 5 * (n - ρ.2.1) + 1; omega, by show 0 + (36 * (n - ρ.2.1) + 7) ≤ 36 * (n - ρ.2.1) + 7; omega⟩) (by omega) (by omega) (fun pl t a0 L k1 k2 k3 k4 k5 k6 k7 k8 => ?_) (fun cd ρ1 a N1 H1 locs1 k1 k2 k3 k4 Y1 kext kT kz kk => ?_)
  · exact ⟨k6, Or.inr ⟨pl, a0, L, by simp only [sLp, k1], rfl, ⟨k2, k3⟩, k4, k5, k7.mono (by omega) (by omega), k8⟩⟩
  · have k31 := k3.1
    have k32 := k3.2.1
    refine lv_astore_n (lv' := [(1, .ref a), (0, .ref r)]) hx hb dX2_sum_4 rfl hl (by decide) rfl (fun ls hl => ?_)
    refine W.widen (k := 5 * (ρ1.2.1 - ρ.2.1)) (n := 36 * (ρ1.2.1 - ρ.2.1)) (by omega) (by omega) ?_
    exact LP (n + 1) cd ρ1 a N1 _ H1 locs1 ls _ (by omega) k2 k3 k4 Y1 (fun q h => h) kext kT hl (by simp only [sLp, k1])
set_option maxHeartbeats 2000000 in
theorem tX2_both (l : Launch) (d fr lo : Nat) (sp : (Nat → Int32) → Nat → tR → pRes) (hsub : pMet l yX2_not cX2_not 3 fr lo d sp) (hfr : 10 ≤ fr) (hlo : 240 ≤ lo) : pMet l yX2_both cX2_both 2 (fr + 1) (lo + 22) d (fun tp n => sLp tp n (sp tp n) cdB) := by
  intro D r tx cB NN tp n ρ Nn sz hn hN hne hi ho
  refine xg_entry (by decide) (Nat.le_of_ble_eq_true rfl) ?_
  intro p e s m args below meth c ls hx hb hml hown hts hlk hr0 hB hl hno
  obtain ⟨⟨hsz, hE, hK, hKc⟩, hNn⟩ := hB
  subst hsz
  have hown : s.vm.findClass RX2 = some m.cls := hown
  have hl : lv_has ls 2 [(0, .ref r)] := hl
  have X : rX p s m args meth c cX2_both 2 D r tx cB NN n := ⟨hx, hb, hml, hown, hts, hlk, hno, hK, hKc, hne, hn, hN⟩
  have Y : rY D r tx cB NN tp n s (fun q => q = r) ρ Nn s.heap [] := ⟨hE, va_S.rf, hNn, rfl⟩
  have hrs : r < s.heap.size := by obtain ⟨w9, h9, -⟩ := hE; exact (h9 0 _ rfl).lt
  have hts9 : tx < s.heap.size := by obtain ⟨w9, h9, -⟩ := hE; exact (h9 1 _ rfl).lt
  have hi1 := hi.1
  have hi2 := hi.2.1
  have LP : ∀ (f : Nat) (cd : List Int32) (ρ1 : tR) (a : Nat) (N1 : Nat → Option va_E) (E1 : Nat → Prop) (H : Heap) (locs : List Loc) (ls : Array Slot) (σ : pRes), n < ρ1.2.1 + f → ρ.2.1 < ρ1.2.1 → rInv n ρ1 → ρ1.2.2.1 = ρ.2.2.1 → rY D r tx cB NN tp n s E1 ρ1 N1 H locs → (∀ q, q < s.heap.size → E1 q) → nExt Nn N1 s.heap.size → cTr N1 idA (ρ1.2.1 - ρ.2.1) a cd → lv_has ls 2 [(1, .ref a), (0, .ref r)] → σ = lpL tp n (sp tp n) cdB f cd ρ1 →
      W p l e { frames := fr + 1, cells := 5 * (n - ρ.2.1) + 1, slots := 36 * (n - ρ.2.1) + 7, locals := lo + 22 } s m args below meth c H locs (5 * (ρ1.2.1 - ρ.2.1)) (36 * (ρ1.2.1 - ρ.2.1)) (xMQ below (prQ D r tx cB NN tp n s.heap.size ρ Nn σ) args s (5 * (n - ρ.2.1) + 1) (36 * (n - ρ.2.1) + 7) (rA r tx s.heap.size)) (F0 m 5 ls []) := by
    intro f
    induction f with
    | zero =>
      intro cd ρ1 a N1 E1 H locs ls σ h1 h2 i1
      have := i1.1
      have := i1.2.1
      exact absurd h1 (by omega)
    | succ f ih =>
      intro cd ρ1 a N1 E1 H locs ls σ h1 h2 i1 i3 Y1 hE1 hext hT hl eσ
      have i11 := i1.1
      have i12 := i1.2.1
      refine lv_aload_n hx hb dX2_both_5 rfl (lv_at hl 1 rfl) ?_
      obtain ⟨qs, hq1, hqs⟩ := hKc.2.2.2.2.2.1
      refine va_ldcS hx hb hown hq1 dX2_both_6 ?_
      refine rd_is X Y1 hqs (by decide) ⟨by show 3 ≤ fr + 1; omega, by show 66 ≤ lo + 22; omega⟩ ⟨by show 5 * (ρ1.2.1 - ρ.2.1) ≤ 5 * (n - ρ.2.1) + 1; omega, by show 36 * (ρ1.2.1 - ρ.2.1) ≤ 36 * (n - ρ.2.1) + 7; omega⟩ hl.1 (Nat.le_of_ble_eq_true rfl) dX2_both_8 ?_
      by_cases hg : ρ1.2.2.2.1 = some anB
      · have hlt : ρ1.2.1 < ρ1.1 := i1.2.2.1 (Or.inl (by rw [hg]; exact fun z => by cases z))
        have hv : isV ρ1.2.2.2.1 anB = 1 := if_pos hg
        rw [hv]
        refine lv_if_eq (tgt := 36) hx hb dX2_both_11 (by decide) (fun h9 => absurd h9 (by decide)) (fun _ => ?_)
        refine lv_aload_n hx hb dX2_both_14 rfl (lv_at hl 1 rfl) ?_
        refine rd_nx X Y1 (x_runV (C := RX2) (As := []) (rest := []) ⟨hx, hb, hml, hown, hts⟩ (tX2_next l D r tx cB NN tp n ρ1 H.size hn hN i12 hne) (cwV 0 hts (lw_V q252 q254 qs0 q73 q255) rfl rfl rfl (by decide +kernel) ⟨by show 6 + 1 ≤ fr + 1; omega, by show 8 + (2 + 11) + 175 ≤ lo + 22; omega⟩) (rd_pre X Y1) rfl rfl hl.1 rfl (lv_room (Nat.le_of_ble_eq_true rfl)) dX2_both_15 ⟨by show 5 * (ρ1.2.1 - ρ.2.1) + 4 ≤ 5 * (n - ρ.2.1) + 1; omega, by show 36 * (ρ1.2.1 - ρ.2.1) + 33 ≤ 36 * (n - ρ.2.1) + 7; omega⟩) (by omega) (by omega) (fun pl t a0 L g1 g2 g3 g4 g5 g6 => ?_) (fun ρ2 H1 locs1 g1 Y2 hz1 hk1 => ?_)
        · obtain ⟨j1, j2⟩ := sNext_inl i12 g1
          exact ⟨g4, Or.inr ⟨pl, a0, L, by rw [eσ]; exact lpL_nx (if_pos hg) g1, rfl, ⟨by omega, j2⟩, g2, g3, g5.mono (by omega) (by omega), g6⟩⟩
        · obtain ⟨j1, i2, j3⟩ := sNext_inr i12 g1
          have i21 := i2.1
          have i22 := i2.2.1
          refine rd_newT X Y2 ⟨by show 5 * (ρ1.2.1 - ρ.2.1) + 4 + 1 ≤ 5 * (n - ρ.2.1) + 1; omega, by show 36 * (ρ1.2.1 - ρ.2.1) + 33 + 3 ≤ 36 * (n - ρ.2.1) + 7; omega⟩ dX2_both_18 (fun q2 H2 Y3 hU hq2 hN2 hlt2 => ?_)
          refine lv_dup hx hb dX2_both_21 rfl ?_
          refine lv_bipush (v := 38) hx hb dX2_both_22 (by decide) ?_
          refine lv_aload_n hx hb dX2_both_24 rfl (lv_at hl 0 rfl) ?_
          refine lv_aload_n hx hb dX2_both_25 rfl (lv_at hl 1 rfl) ?_
          have hz2 : s.heap.size ≤ H2.size := Y3.2.1.1
          have hz10 : s.heap.size ≤ H1.size := Y2.2.1.1
          refine rd_pr X Y3 (x_runV (C := RX2) (As := []) (rest := [.ref a, .int 38, .ref q2, .ref q2]) ⟨hx, hb, hml, hown, hts⟩ (hsub D r tx cB NN tp n ρ2 N1 H2.size hn hN hne i2 (by omega)) (cwV 0 hts (lw_V q578 q580 qs7 q73 q581) rfl rfl rfl (by decide +kernel) ⟨by show fr + 1 ≤ fr + 1; omega, by show 8 + (3 + 11) + lo ≤ lo + 22; omega⟩) (rp_pre X Y3) rfl rfl hl.1 rfl (lv_room (Nat.le_of_ble_eq_true rfl)) dX2_both_26 ⟨by show 5 * (ρ1.2.1 - ρ.2.1) + 4 + 1 + (5 * (n - ρ2.2.1) + 1) ≤ 5 * (n - ρ.2.1) + 1; omega, by show 36 * (ρ1.2.1 - ρ.2.1) + 33 + 3 + (36 * (n - ρ2.2.1) + 7) ≤ 36 * (n - ρ.2.1) + 7; omega⟩) (by omega) (by omega) (fun pl t a0 L k1 k2 k3 k4 k5 k6 k7 k8 => ?_) (fun cd2 ρ3 a2 N2 H3 locs3 k1 k2 k3 k4 Y4 kext kT kz kk => ?_)
          · exact ⟨k6, Or.inr ⟨pl, a0, L, by rw [eσ]; exact lpL_sub (if_pos hg) g1 k1, rfl, ⟨by omega, k3⟩, k4, k5, k7.mono (by omega) (by omega), k8⟩⟩
          · have k31 := k3.1
            have k32 := k3.2.1
            have hq2n : N2 q2 = none := by
              cases hc : N2 q2 with
              | none => rfl
              | some x => exact absurd (kext.2 q2 hN2 (by rw [hc]; exact fun z => by cases z)) (by omega)
            have hU3 : va_P D vcl [(q2, .inr (12, [.int 0, .null, .null]))] H3 := hU.kept (fun k q hq => by
              match k, hq with
              | 0, hq => cases hq; exact kk _ hlt2 (fun z => absurd (show q2 = r from z) (by omega)) (fun z => absurd (show q2 = tx from z) (by omega)))
            refine rd_initT X Y4 hU3 hq2n (by omega) hlt2 hrs hts9 ⟨by show 2 ≤ fr + 1; omega, by show 35 ≤ lo + 22; omega⟩ ⟨by show 5 * (ρ1.2.1 - ρ.2.1) + 4 + 1 + 5 * (ρ3.2.1 - ρ2.2.1) ≤ 5 * (n - ρ.2.1) + 1; omega, by show 36 * (ρ1.2.1 - ρ.2.1) + 33 + 3 + 36 * (ρ3.2.1 - ρ2.2.1) ≤ 36 * (n - ρ.2.1) + 7; omega⟩ hl.1 (Nat.le_of_ble_eq_true rfl) dX2_both_29 (fun H4 locs4 Y5 => ?_)
            refine lv_astore_n (lv' := [(1, .ref q2), (0, .ref r)]) hx hb dX2_both_32 rfl hl (by decide) rfl (fun ls hl => ?_)
            refine lv_goto (tgt := 5) hx hb dX2_both_33 (by decide) ?_
            refine W.widen (k := 5 * (ρ3.2.1 - ρ.2.1)) (n := 36 * (ρ3.2.1 - ρ.2.1)) (by omega) (by omega) ?_
            exact ih _ ρ3 q2 _ _ H4 locs4 ls σ (by omega) (by omega) k3 (by omega) Y5 (fun q h => Nat.lt_of_lt_of_le h hz2) ((hext.trans kext hz2).trans (nExt.up hq2n (by omega)) (Nat.le_refl _)) (cTr_two hq2n (cTr_mono kext.1 _ _ _ _ (Nat.le_refl _) hT) kT (Or.inr (Or.inr (Or.inr (Or.inr (Or.inr (Or.inl ⟨rfl, rfl⟩)))))) (by omega) (by omega)) (lv_sub hl [0, 1] rfl) (by rw [eσ]; exact lpL_go (if_pos hg) g1 k1)
      · have hv : isV ρ1.2.2.2.1 anB = 0 := if_neg hg
        rw [hv]
        refine lv_if_eq (tgt := 36) hx hb dX2_both_11 (by decide) (fun _ => ?_) (fun h9 => absurd rfl h9)
        refine lv_aload_n hx hb dX2_both_36 rfl (lv_at hl 0 rfl) ?_
        exact rd_ret X Y1 hE1 hr0 (by rw [eσ]; exact lpL_end (if_neg hg)) h2 i1 i3 hext hT (Nat.le_refl _) (Nat.le_refl _) (Nat.le_refl _) (by omega) (by omega) dX2_both_37
  refine lv_aload_n hx hb dX2_both_0 rfl (lv_at hl 0 rfl) ?_
  refine rd_pr X Y (x_runV (C := RX2) (As := []) (rest := []) ⟨hx, hb, hml, hown, hts⟩ (hsub D r tx cB NN tp n ρ Nn s.heap.size hn hN hne hi ho) (cwV 0 hts (lw_V q578 q580 qs7 q73 q581) rfl rfl rfl (by decide +kernel) ⟨by show fr + 1 ≤ fr + 1; omega, by show 8 + (3 + 11) + lo ≤ lo + 22; omega⟩) (rp_pre X Y) rfl rfl hl.1 rfl (lv_room (Nat.le_of_ble_eq_true rfl)) dX2_both_1 ⟨by show 0 + (5 * (n - ρ.2.1) + 1) ≤ 5 * (n - ρ.2.1) + 1; omega, by show 0 + (36 * (n - ρ.2.1) + 7) ≤ 36 * (n - ρ.2.1) + 7; omega⟩) (by omega) (by omega) (fun pl t a0 L k1 k2 k3 k4 k5 k6 k7 k8 => ?_) (fun cd ρ1 a N1 H1 locs1 k1 k2 k3 k4 Y1 kext kT kz kk => ?_)
  · exact ⟨k6, Or.inr ⟨pl, a0, L, by simp only [sLp, k1], rfl, ⟨k2, k3⟩, k4, k5, k7.mono (by omega) (by omega), k8⟩⟩
  · have k31 := k3.1
    have k32 := k3.2.1
    refine lv_astore_n (lv' := [(1, .ref a), (0, .ref r)]) hx hb dX2_both_4 rfl hl (by decide) rfl (fun ls hl => ?_)
    refine W.widen (k := 5 * (ρ1.2.1 - ρ.2.1)) (n := 36 * (ρ1.2.1 - ρ.2.1)) (by omega) (by omega) ?_
    exact LP (n + 1) cd ρ1 a N1 _ H1 locs1 ls _ (by omega) k2 k3 k4 Y1 (fun q h => h) kext kT hl (by simp only [sLp, k1])
set_option maxHeartbeats 2000000 in
theorem tX2_either (l : Launch) (d fr lo : Nat) (sp : (Nat → Int32) → Nat → tR → pRes) (hsub : pMet l yX2_both cX2_both 2 fr lo d sp) (hfr : 10 ≤ fr) (hlo : 240 ≤ lo) : pMet l yX2_either cX2_either 2 (fr + 1) (lo + 22) d (fun tp n => sLp tp n (sp tp n) cdE) := by
  intro D r tx cB NN tp n ρ Nn sz hn hN hne hi ho
  refine xg_entry (by decide) (Nat.le_of_ble_eq_true rfl) ?_
  intro p e s m args below meth c ls hx hb hml hown hts hlk hr0 hB hl hno
  obtain ⟨⟨hsz, hE, hK, hKc⟩, hNn⟩ := hB
  subst hsz
  have hown : s.vm.findClass RX2 = some m.cls := hown
  have hl : lv_has ls 2 [(0, .ref r)] := hl
  have X : rX p s m args meth c cX2_either 2 D r tx cB NN n := ⟨hx, hb, hml, hown, hts, hlk, hno, hK, hKc, hne, hn, hN⟩
  have Y : rY D r tx cB NN tp n s (fun q => q = r) ρ Nn s.heap [] := ⟨hE, va_S.rf, hNn, rfl⟩
  have hrs : r < s.heap.size := by obtain ⟨w9, h9, -⟩ := hE; exact (h9 0 _ rfl).lt
  have hts9 : tx < s.heap.size := by obtain ⟨w9, h9, -⟩ := hE; exact (h9 1 _ rfl).lt
  have hi1 := hi.1
  have hi2 := hi.2.1
  have LP : ∀ (f : Nat) (cd : List Int32) (ρ1 : tR) (a : Nat) (N1 : Nat → Option va_E) (E1 : Nat → Prop) (H : Heap) (locs : List Loc) (ls : Array Slot) (σ : pRes), n < ρ1.2.1 + f → ρ.2.1 < ρ1.2.1 → rInv n ρ1 → ρ1.2.2.1 = ρ.2.2.1 → rY D r tx cB NN tp n s E1 ρ1 N1 H locs → (∀ q, q < s.heap.size → E1 q) → nExt Nn N1 s.heap.size → cTr N1 idA (ρ1.2.1 - ρ.2.1) a cd → lv_has ls 2 [(1, .ref a), (0, .ref r)] → σ = lpL tp n (sp tp n) cdE f cd ρ1 →
      W p l e { frames := fr + 1, cells := 5 * (n - ρ.2.1) + 1, slots := 36 * (n - ρ.2.1) + 7, locals := lo + 22 } s m args below meth c H locs (5 * (ρ1.2.1 - ρ.2.1)) (36 * (ρ1.2.1 - ρ.2.1)) (xMQ below (prQ D r tx cB NN tp n s.heap.size ρ Nn σ) args s (5 * (n - ρ.2.1) + 1) (36 * (n - ρ.2.1) + 7) (rA r tx s.heap.size)) (F0 m 5 ls []) := by
    intro f
    induction f with
    | zero =>
      intro cd ρ1 a N1 E1 H locs ls σ h1 h2 i1
      have := i1.1
      have := i1.2.1
      exact absurd h1 (by omega)
    | succ f ih =>
      intro cd ρ1 a N1 E1 H locs ls σ h1 h2 i1 i3 Y1 hE1 hext hT hl eσ
      have i11 := i1.1
      have i12 := i1.2.1
      refine lv_aload_n hx hb dX2_either_5 rfl (lv_at hl 1 rfl) ?_
      obtain ⟨qs, hq1, hqs⟩ := hKc.2.2.2.2.2.2.1
      refine va_ldcS hx hb hown hq1 dX2_either_6 ?_
      refine rd_is X Y1 hqs (by decide) ⟨by show 3 ≤ fr + 1; omega, by show 66 ≤ lo + 22; omega⟩ ⟨by show 5 * (ρ1.2.1 - ρ.2.1) ≤ 5 * (n - ρ.2.1) + 1; omega, by show 36 * (ρ1.2.1 - ρ.2.1) ≤ 36 * (n - ρ.2.1) + 7; omega⟩ hl.1 (Nat.le_of_ble_eq_true rfl) dX2_either_8 ?_
      by_cases hg : ρ1.2.2.2.1 = some orB
      · have hlt : ρ1.2.1 < ρ1.1 := i1.2.2.1 (Or.inl (by rw [hg]; exact fun z => by cases z))
        have hv : isV ρ1.2.2.2.1 orB = 1 := if_pos hg
        rw [hv]
        refine lv_if_eq (tgt := 36) hx hb dX2_either_11 (by decide) (fun h9 => absurd h9 (by decide)) (fun _ => ?_)
        refine lv_aload_n hx hb dX2_either_14 rfl (lv_at hl 1 rfl) ?_
        refine rd_nx X Y1 (x_runV (C := RX2) (As := []) (rest := []) ⟨hx, hb, hml, hown, hts⟩ (tX2_next l D r tx cB NN tp n ρ1 H.size hn hN i12 hne) (cwV 0 hts (lw_V q252 q254 qs0 q73 q255) rfl rfl rfl (by decide +kernel) ⟨by show 6 + 1 ≤ fr + 1; omega, by show 8 + (2 + 11) + 175 ≤ lo + 22; omega⟩) (rd_pre X Y1) rfl rfl hl.1 rfl (lv_room (Nat.le_of_ble_eq_true rfl)) dX2_either_15 ⟨by show 5 * (ρ1.2.1 - ρ.2.1) + 4 ≤ 5 * (n - ρ.2.1) + 1; omega, by show 36 * (ρ1.2.1 - ρ.2.1) + 33 ≤ 36 * (n - ρ.2.1) + 7; omega⟩) (by omega) (by omega) (fun pl t a0 L g1 g2 g3 g4 g5 g6 => ?_) (fun ρ2 H1 locs1 g1 Y2 hz1 hk1 => ?_)
        · obtain ⟨j1, j2⟩ := sNext_inl i12 g1
          exact ⟨g4, Or.inr ⟨pl, a0, L, by rw [eσ]; exact lpL_nx (if_pos hg) g1, rfl, ⟨by omega, j2⟩, g2, g3, g5.mono (by omega) (by omega), g6⟩⟩
        · obtain ⟨j1, i2, j3⟩ := sNext_inr i12 g1
          have i21 := i2.1
          have i22 := i2.2.1
          refine rd_newT X Y2 ⟨by show 5 * (ρ1.2.1 - ρ.2.1) + 4 + 1 ≤ 5 * (n - ρ.2.1) + 1; omega, by show 36 * (ρ1.2.1 - ρ.2.1) + 33 + 3 ≤ 36 * (n - ρ.2.1) + 7; omega⟩ dX2_either_18 (fun q2 H2 Y3 hU hq2 hN2 hlt2 => ?_)
          refine lv_dup hx hb dX2_either_21 rfl ?_
          refine lv_bipush (v := 124) hx hb dX2_either_22 (by decide) ?_
          refine lv_aload_n hx hb dX2_either_24 rfl (lv_at hl 0 rfl) ?_
          refine lv_aload_n hx hb dX2_either_25 rfl (lv_at hl 1 rfl) ?_
          have hz2 : s.heap.size ≤ H2.size := Y3.2.1.1
          have hz10 : s.heap.size ≤ H1.size := Y2.2.1.1
          refine rd_pr X Y3 (x_runV (C := RX2) (As := []) (rest := [.ref a, .int 124, .ref q2, .ref q2]) ⟨hx, hb, hml, hown, hts⟩ (hsub D r tx cB NN tp n ρ2 N1 H2.size hn hN hne i2 (by omega)) (cwV 0 hts (lw_V q574 q576 qs6 q73 q577) rfl rfl rfl (by decide +kernel) ⟨by show fr + 1 ≤ fr + 1; omega, by show 8 + (2 + 11) + lo ≤ lo + 22; omega⟩) (rp_pre X Y3) rfl rfl hl.1 rfl (lv_room (Nat.le_of_ble_eq_true rfl)) dX2_either_26 ⟨by show 5 * (ρ1.2.1 - ρ.2.1) + 4 + 1 + (5 * (n - ρ2.2.1) + 1) ≤ 5 * (n - ρ.2.1) + 1; omega, by show 36 * (ρ1.2.1 - ρ.2.1) + 33 + 3 + (36 * (n - ρ2.2.1) + 7) ≤ 36 * (n - ρ.2.1) + 7; omega⟩) (by omega) (by omega) (fun pl t a0 L k1 k2 k3 k4 k5 k6 k7 k8 => ?_) (fun cd2 ρ3 a2 N2 H3 locs3 k1 k2 k3 k4 Y4 kext kT kz kk => ?_)
          · exact ⟨k6, Or.inr ⟨pl, a0, L, by rw [eσ]; exact lpL_sub (if_pos hg) g1 k1, rfl, ⟨by omega, k3⟩, k4, k5, k7.mono (by omega) (by omega), k8⟩⟩
          · have k31 := k3.1
            have k32 := k3.2.1
            have hq2n : N2 q2 = none := by
              cases hc : N2 q2 with
              | none => rfl
              | some x => exact absurd (kext.2 q2 hN2 (by rw [hc]; exact fun z => by cases z)) (by omega)
            have hU3 : va_P D vcl [(q2, .inr (12, [.int 0, .null, .null]))] H3 := hU.kept (fun k q hq => by
              match k, hq with
              | 0, hq => cases hq; exact kk _ hlt2 (fun z => absurd (show q2 = r from z) (by omega)) (fun z => absurd (show q2 = tx from z) (by omega)))
            refine rd_initT X Y4 hU3 hq2n (by omega) hlt2 hrs hts9 ⟨by show 2 ≤ fr + 1; omega, by show 35 ≤ lo + 22; omega⟩ ⟨by show 5 * (ρ1.2.1 - ρ.2.1) + 4 + 1 + 5 * (ρ3.2.1 - ρ2.2.1) ≤ 5 * (n - ρ.2.1) + 1; omega, by show 36 * (ρ1.2.1 - ρ.2.1) + 33 + 3 + 36 * (ρ3.2.1 - ρ2.2.1) ≤ 36 * (n - ρ.2.1) + 7; omega⟩ hl.1 (Nat.le_of_ble_eq_true rfl) dX2_either_29 (fun H4 locs4 Y5 => ?_)
            refine lv_astore_n (lv' := [(1, .ref q2), (0, .ref r)]) hx hb dX2_either_32 rfl hl (by decide) rfl (fun ls hl => ?_)
            refine lv_goto (tgt := 5) hx hb dX2_either_33 (by decide) ?_
            refine W.widen (k := 5 * (ρ3.2.1 - ρ.2.1)) (n := 36 * (ρ3.2.1 - ρ.2.1)) (by omega) (by omega) ?_
            exact ih _ ρ3 q2 _ _ H4 locs4 ls σ (by omega) (by omega) k3 (by omega) Y5 (fun q h => Nat.lt_of_lt_of_le h hz2) ((hext.trans kext hz2).trans (nExt.up hq2n (by omega)) (Nat.le_refl _)) (cTr_two hq2n (cTr_mono kext.1 _ _ _ _ (Nat.le_refl _) hT) kT (Or.inr (Or.inr (Or.inr (Or.inr (Or.inr (Or.inr ⟨rfl, rfl⟩)))))) (by omega) (by omega)) (lv_sub hl [0, 1] rfl) (by rw [eσ]; exact lpL_go (if_pos hg) g1 k1)
      · have hv : isV ρ1.2.2.2.1 orB = 0 := if_neg hg
        rw [hv]
        refine lv_if_eq (tgt := 36) hx hb dX2_either_11 (by decide) (fun _ => ?_) (fun h9 => absurd rfl h9)
        refine lv_aload_n hx hb dX2_either_36 rfl (lv_at hl 0 rfl) ?_
        exact rd_ret X Y1 hE1 hr0 (by rw [eσ]; exact lpL_end (if_neg hg)) h2 i1 i3 hext hT (Nat.le_refl _) (Nat.le_refl _) (Nat.le_refl _) (by omega) (by omega) dX2_either_37
  refine lv_aload_n hx hb dX2_either_0 rfl (lv_at hl 0 rfl) ?_
  refine rd_pr X Y (x_runV (C := RX2) (As := []) (rest := []) ⟨hx, hb, hml, hown, hts⟩ (hsub D r tx cB NN tp n ρ Nn s.heap.size hn hN hne hi ho) (cwV 0 hts (lw_V q574 q576 qs6 q73 q577) rfl rfl rfl (by decide +kernel) ⟨by show fr + 1 ≤ fr + 1; omega, by show 8 + (2 + 11) + lo ≤ lo + 22; omega⟩) (rp_pre X Y) rfl rfl hl.1 rfl (lv_room (Nat.le_of_ble_eq_true rfl)) dX2_either_1 ⟨by show 0 + (5 * (n - ρ.2.1) + 1) ≤ 5 * (n - ρ.2.1) + 1; omega, by show 0 + (36 * (n - ρ.2.1) + 7) ≤ 36 * (n - ρ.2.1) + 7; omega⟩) (by omega) (by omega) (fun pl t a0 L k1 k2 k3 k4 k5 k6 k7 k8 => ?_) (fun cd ρ1 a N1 H1 locs1 k1 k2 k3 k4 Y1 kext kT kz kk => ?_)
  · exact ⟨k6, Or.inr ⟨pl, a0, L, by simp only [sLp, k1], rfl, ⟨k2, k3⟩, k4, k5, k7.mono (by omega) (by omega), k8⟩⟩
  · have k31 := k3.1
    have k32 := k3.2.1
    refine lv_astore_n (lv' := [(1, .ref a), (0, .ref r)]) hx hb dX2_either_4 rfl hl (by decide) rfl (fun ls hl => ?_)
    refine W.widen (k := 5 * (ρ1.2.1 - ρ.2.1)) (n := 36 * (ρ1.2.1 - ρ.2.1)) (by omega) (by omega) ?_
    exact LP (n + 1) cd ρ1 a N1 _ H1 locs1 ls _ (by omega) k2 k3 k4 Y1 (fun q h => h) kext kT hl (by simp only [sLp, k1])
