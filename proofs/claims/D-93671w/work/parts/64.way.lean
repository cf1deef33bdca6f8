/-! ===== way: a new way, into the list ===== -/
set_option maxRecDepth 100000
theorem cE_ad33 {G ad ad1 : Nat → Nat} {F : tF} {Ar : tA} {Kd : tK} {U : tU} (h : ∀ q, q ≠ 33 → ad1 q = ad q) {k : Nat} (hk : k ≠ 9) : cE G ad1 F Ar Kd U k = cE G ad F Ar Kd U k := by
  unfold cE
  cases cArr Kd k with
  | some q => rfl
  | none =>
    simp only
    unfold cOb
    by_cases e0 : k = 0
    · simp only [e0, if_true]
      congr 3
      unfold cFs
      apply List.map_congr_left
      intro j hj
      have hj := List.mem_range.mp hj
      unfold cFld
      rw [h (j + 1) (by omega)]
    have w : ∀ j, ad1 (wo j) = ad (wo j) := fun j => h _ (by show 100 + 2 * j ≠ 33; omega)
    have n : ∀ j, ad1 (200 + j) = ad (200 + j) := fun j => h _ (by omega)
    have v : ∀ j, ad1 (40 + j) = ad (40 + j) := fun j => h _ (by omega)
    rw [if_neg e0, if_neg hk, if_neg e0, if_neg hk]
    simp only [w, n, v]
    by_cases e40 : 40 ≤ k ∧ k < 44
    · rw [h (k + 4) (by omega)]
      by_cases e100 : 100 ≤ k ∧ k < 128
      · omega
      · simp only [e100, if_false]
    · simp only [e40, if_false]
      by_cases e100 : 100 ≤ k ∧ k < 128
      · rw [h (k + 1) (by omega)]
      · simp only [e100, if_false]
theorem cE_grown8 {G ad : Nat → Nat} {F : tF} {Ar : tA} {Kd : tK} {U : tU} {i kd a b : Nat} {num : Int32} (hi : i < 8) (hkd : kd < 6) (hKi : Kd i = none) (hsz : (F 32).toNatClampNeg ≤ i) :
    gw_set (gw_set (cE G ad F Ar Kd U) (wo i) (.inr (2 + kd, [.int num, .ref b, .int 0]))) (wa i) (.inl (G 1, 16, .inl (fun _ => 0))) = cE G (nwAd ad i a b) (nwF F i num) (nwA Ar i) (va_up Kd i (some kd)) U := by
  have h14 : i < 14 := by omega
  have hK1 : va_up Kd i (some kd) i = some kd := by simp [va_up]
  funext k
  by_cases eo : k = wo i
  · subst eo
    rw [cE_way h14 hK1, nwAd_a]
    have e1 : nwF F i num (wo i) = num := by simp [nwF, upd, wo_ne_wa]
    have e2 : nwF F i num (wa i) = 0 := by simp [nwF, upd]
    rw [e1, e2]
    simp [gw_set, wo_ne_wa]
  by_cases ea : k = wa i
  · subst ea
    rw [cE_of (cArr_wa h14 (by rw [hK1]; exact fun z => by cases z))]
    have e1 : nwA Ar i (wa i) = fun _ => 0 := by simp [nwA, aput]
    rw [e1]
    simp [gw_set]
  simp only [gw_set, if_neg eo, if_neg ea]
  by_cases e19 : k = 19
  · subst e19
    have e : (fun j => if (Kd (8 + j)).isSome = true then some (ad (wo (8 + j))) else none) = (fun j => if (va_up Kd i (some kd) (8 + j)).isSome = true then some (nwAd ad i a b (wo (8 + j))) else none) := by
      funext j
      have e1 : va_up Kd i (some kd) (8 + j) = Kd (8 + j) := by simp [va_up]; omega
      have e2 : nwAd ad i a b (wo (8 + j)) = ad (wo (8 + j)) := nwAd_n (by show 100 + 2 * (8 + j) ≠ 100 + 2 * i; omega) (by show 100 + 2 * (8 + j) ≠ 101 + 2 * i; omega)
      rw [e1, e2]
    show some (Sum.inl (G 2, 6, Sum.inr (Sum.inr (Sum.inr (Sum.inr (fun j => if (Kd (8 + j)).isSome = true then some (ad (wo (8 + j))) else none)))))) = some (Sum.inl (G 2, 6, Sum.inr (Sum.inr (Sum.inr (Sum.inr (fun j => if (va_up Kd i (some kd) (8 + j)).isSome = true then some (nwAd ad i a b (wo (8 + j))) else none))))))
    rw [e]
  · exact (cE_new hsz h14 hKi (fun q h1 h2 => nwAd_n h1 h2) (fun q h1 h2 => by simp [nwF, upd, h1, h2]) (fun q h1 => by simp [nwA, aput, h1]) (fun q h1 => by simp [va_up, h1]) eo ea e19).symm
theorem cWf_new8 {F F1 : tF} {Kd : tK} {i kd : Nat} (h : cWf F Kd) (h32 : F1 32 = F 32) (hi : i < 8) (hkd : kd < 6) : cWf F1 (va_up Kd i (some kd)) := by
  obtain ⟨h1, h2, h3, h4⟩ := h
  refine ⟨by rw [h32]; exact h1, by rw [h32]; exact h2, fun j hj => ?_, fun j k hk => ?_⟩
  · rw [h32] at hj
    by_cases e : j = i
    · simp [va_up, e]
    · simp [va_up, e]
      exact h3 j hj
  · by_cases e : j = i
    · subst e
      simp [va_up] at hk
      omega
    · simp [va_up, e] at hk
      exact h4 j k hk
/-- the world behind an add -/
theorem add_world {D : va_G} {A : Nat → Prop} {G ad : Nat → Nat} {H0 : Heap} {Kd : tK} {U : tU} {T : tT} {zz : Int32} {F : tF} {Ar : tA} {H H1 : Heap} {locs locs1 : List Loc} {i kd d : Nat} (P : cP D A G ad H0 Kd U T zz F Ar H locs) (hi : i < 8) (h32 : F 32 = nI i) (hk : Kd i = some kd) {fs : List Value} (hfs : cE G ad F Ar Kd U (wo i) = some (.inr (2 + kd, fs)))
    (hP1 : va_P D vcl (l1C (ad 9) (ad (wo i)) d (G 5) kd (F 33 + 1) (nI (i + 1)) fs (fun j => if j < i + 1 then some (ad (wo j)) else none)) H1) (hkp : ∀ q : Nat, q < H.size → q ≠ ad 9 → q ≠ ad (wo i) → q ≠ d → H1[q]? = H[q]?) (hd1 : i ≠ 0 → d = ad 33) (hd0 : i = 0 → H.size ≤ d) (hAd : A d) (hS : va_S A H0 H1 locs1) :
    cP D A G (va_up ad 33 d) H0 Kd U T (nI (i + 1)) (upd (upd F 33 (F 33 + 1)) 32 (nI (i + 1))) Ar H1 locs1 := by
  have e28 : upd (upd F 33 (F 33 + 1)) 32 (nI (i + 1)) 28 = F 28 := rfl
  have e32 : upd (upd F 33 (F 33 + 1)) 32 (nI (i + 1)) 32 = nI (i + 1) := rfl
  have e33 : upd (upd F 33 (F 33 + 1)) 32 (nI (i + 1)) 33 = F 33 + 1 := rfl
  have had : ∀ q, q ≠ 33 → va_up ad 33 d q = ad q := fun q h => by simp [va_up, h]
  have had3 : va_up ad 33 d 33 = d := by simp [va_up]
  have hoth : ∀ k, k ≠ 9 → k ≠ 33 → cE G (va_up ad 33 d) (upd (upd F 33 (F 33 + 1)) 32 (nI (i + 1))) Ar Kd U k = cE G ad F Ar Kd U k := by
    intro k h9 h33
    rw [cE_ad33 had h9, cE_upd (fun _ => by omega) (fun h => absurd h (by omega)) (fun _ _ => by omega) (fun _ _ => by omega), cE_upd (fun _ => by omega) (fun h => absurd h (by omega)) (fun _ _ => by omega) (fun _ _ => by omega)]
  have c9 : cE G (va_up ad 33 d) (upd (upd F 33 (F 33 + 1)) 32 (nI (i + 1))) Ar Kd U 9 = some (.inr (9, [.int (F 33 + 1), .ref d, .int (nI (i + 1))])) := by
    show some (Sum.inr (9, [Value.int _, Value.ref (if _ = 0 then _ else _), Value.int _])) = _
    rw [e32, e33, if_neg (nI_ne0 (by omega) (by omega)), had3]
  have c33 : cE G (va_up ad 33 d) (upd (upd F 33 (F 33 + 1)) 32 (nI (i + 1))) Ar Kd U 33 = some (.inl (G 5, 10, .inr (.inr (.inr (.inr (fun j => if j < i + 1 then some (ad (wo j)) else none)))))) := by
    show (if _ = 0 then none else some (Sum.inl (G 5, 10, Sum.inr (Sum.inr (Sum.inr (Sum.inr (fun j => if j < Int32.toNatClampNeg _ then some (va_up ad 33 d (wo j)) else none))))))) = _
    rw [e32, if_neg (nI_ne0 (by omega) (by omega)), nI_clamp (by omega)]
    have w : ∀ j, va_up ad 33 d (wo j) = ad (wo j) := fun j => had _ (by show 100 + 2 * j ≠ 33; omega)
    simp only [w]
  have ne9 : cE G ad F Ar Kd U 9 ≠ none := fun z => by cases z
  have hwne : cE G ad F Ar Kd U (wo i) ≠ none := by rw [hfs]; exact fun z => by cases z
  have h9w : (9 : Nat) ≠ wo i := by show 9 ≠ 100 + 2 * i; omega
  have h3w : (33 : Nat) ≠ wo i := by show 33 ≠ 100 + 2 * i; omega
  have ne33 : i ≠ 0 → cE G ad F Ar Kd U 33 ≠ none := by
    intro h
    show (if F 32 = 0 then none else _) ≠ none
    rw [h32, if_neg (nI_ne0 (by omega) (by omega))]
    exact fun z => by cases z
  refine ⟨fun k x hx => ?_, ⟨fun j k hj hk2 he => ?_, fun k hk2 => ?_⟩, hS, ?_, cTx_ad (fun k => had _ (by omega)) e28 P.2.2.2.2.1, e32⟩
  · by_cases k9 : k = 9
    · subst k9
      rw [c9] at hx
      cases hx
      rw [had 9 (by decide)]
      exact hP1 0 _ rfl
    by_cases k33 : k = 33
    · subst k33
      rw [c33] at hx
      cases hx
      rw [had3]
      exact hP1 2 _ rfl
    rw [hoth k k9 k33] at hx
    rw [had k k33]
    by_cases kw : k = wo i
    · subst kw
      rw [hfs] at hx
      cases hx
      exact hP1 1 _ rfl
    · have h0 := P.1 k x hx
      have hne : cE G ad F Ar Kd U k ≠ none := by rw [hx]; exact fun z => by cases z
      refine h0.kept (hkp _ h0.lt (fun z => k9 (P.2.1.1 k 9 hne ne9 z)) (fun z => kw (P.2.1.1 k _ hne hwne z)) (fun z => ?_))
      by_cases ei : i = 0
      · have := hd0 ei
        have h1 : ad k < H.size := h0.lt
        omega
      · rw [hd1 ei] at z
        exact k33 (P.2.1.1 k 33 hne (ne33 ei) z)
  · have key : ∀ k, k ≠ 33 → cE G (va_up ad 33 d) (upd (upd F 33 (F 33 + 1)) 32 (nI (i + 1))) Ar Kd U k ≠ none → cE G ad F Ar Kd U k ≠ none := by
      intro k h33 h
      by_cases k9 : k = 9
      · subst k9; exact ne9
      · rw [hoth k k9 h33] at h; exact h
    have far : ∀ k, k ≠ 33 → cE G ad F Ar Kd U k ≠ none → ad k ≠ d := by
      intro k h33 h z
      by_cases ei : i = 0
      · cases hc : cE G ad F Ar Kd U k with
        | none => exact h hc
        | some y =>
          have h1 : ad k < H.size := (P.1 k y hc).lt
          have := hd0 ei
          omega
      · rw [hd1 ei] at z
        exact h33 (P.2.1.1 k 33 h (ne33 ei) z)
    by_cases j33 : j = 33
    · by_cases k33 : k = 33
      · rw [j33, k33]
      · subst j33
        rw [had3, had k k33] at he
        exact absurd he.symm (far k k33 (key k k33 hk2))
    · by_cases k33 : k = 33
      · subst k33
        rw [had3, had j j33] at he
        exact absurd he (far j j33 (key j j33 hj))
      · rw [had j j33, had k k33] at he
        exact P.2.1.1 j k (key j j33 hj) (key k k33 hk2) he
  · by_cases k33 : k = 33
    · subst k33
      rw [had3]
      exact hAd
    · rw [had k k33]
      by_cases k9 : k = 9
      · subst k9; exact P.2.1.2 9 ne9
      · rw [hoth k k9 k33] at hk2; exact P.2.1.2 k hk2
  · obtain ⟨h1, h2, h3, h4⟩ := P.2.2.2.1
    refine ⟨by rw [e32]; exact nI_pos (by omega), by rw [e32, nI_clamp (by omega)]; omega, fun j hj => ?_, h4⟩
    rw [e32, nI_clamp (by omega)] at hj
    by_cases ej : j = i
    · rw [ej, hk]; exact fun z => by cases z
    · exact h3 j (by rw [h32, nI_clamp (by omega)]; omega)
section WAYR
variable {p : Program} {l : Launch} {e : Env} {R : Room} {s : State} {m : MethodId} {args : Array Value} {below : List Frame} {meth : Method} {c : Code} {H : Heap} {locs : List Loc} {cells slots : Nat} {Q : State → Prop}
variable {cc : ByteArray} {nL pc : Nat} {ls : Array Slot} {rest : List Value} {D : va_G} {A : Nat → Prop} {G ad : Nat → Nat} {Kd : tK} {U : tU} {T : tT} {zz : Int32} {F : tF} {Ar : tA}
set_option maxHeartbeats 4000000 in
theorem c_made {i kd : Nat} (X : cCx p s m args meth c cc nL RX0 D G) (P : cP D A G ad s.heap Kd U T zz F Ar H locs) (hA : ∀ q, s.heap.size ≤ q → A q) (hi : i < 8) (hkd : kd < 6) (hKi : Kd i = none) (h32 : F 32 = nI i) (hR : 4 + 1 ≤ R.frames ∧ 8 + (2 + 11) + 75 ≤ R.locals) (hC : cells + 2 ≤ R.cells ∧ slots + 19 ≤ R.slots) (hls : ls.size = nL) (hst : (rest.map fun v => v.category).sum ≤ 8) (hdg : decode cc pc = .ok (.invokestatic 232, 3))
    (kk : ∀ (ad1 : Nat → Nat) (H1 : Heap) (locs1 : List Loc), (∀ q, q ≠ wo i → q ≠ wa i → ad1 q = ad q) → cP D A G ad1 s.heap (va_up Kd i (some kd)) U T zz (nwF F i (nI i)) (nwA Ar i) H1 locs1 → W p l e R s m args below meth c H1 locs1 (cells + 2) (slots + 19) Q (F0 m (pc + 3) ls (.ref (ad1 (wo i)) :: rest))) :
    W p l e R s m args below meth c H locs cells slots Q (F0 m pc ls (.int (F 32) :: .int (nI kd) :: rest)) := by
  obtain ⟨hx, hb, hml, hown, hts, hK, hlk, hN⟩ := id X
  have hAH : ∀ q, H.size ≤ q → A q := fun q h => hA q (Nat.le_trans P.2.2.1.1 h)
  have hsz32 : (F 32).toNatClampNeg ≤ i := by rw [h32, nI_clamp (by omega)]; exact Nat.le_refl _
  have fin : ∀ (b a : Nat) (t : State) (H1 : Heap) (locs1 : List Loc), t.heap = H1 → (va_P D vcl [(a, .inr (2 + kd, [.int (nI i), .ref b, .int 0])), (b, .inl (G 1, 16, .inl (fun _ => 0)))] t.heap ∧ H.size ≤ a ∧ H.size ≤ b ∧ a ≠ b) → (∀ q : Nat, q < H.size → ¬ H.size ≤ q → H1[q]? = H[q]?) → va_S A s.heap H1 locs1 → W p l e R s m args below meth c H1 locs1 (cells + 2) (slots + 19) Q (F0 m (pc + 3) ls (.ref a :: rest)) := by
    intro b a t H1 locs1 ht hB hkp hS
    obtain ⟨hP1, ha, hb2, hab⟩ := hB
    rw [ht] at hP1
    have hold : ∀ q : Nat, q < H.size → H1[q]? = H[q]? := fun q h => hkp q h (Nat.not_le.mpr h)
    have no1 : cE G ad F Ar Kd U (wo i) = none := by
      have e0 : cArr Kd (wo i) = none := cArr_wo (by omega)
      rw [cE_ob e0]
      unfold cOb
      have g1 : ¬ (100 + 2 * i = 0) := by omega
      have g2 : ¬ (100 + 2 * i = 9) := by omega
      have g3 : ¬ (100 + 2 * i = 19) := by omega
      have g4 : ¬ (100 + 2 * i = 28) := by omega
      have g5 : ¬ (100 + 2 * i = 32) := by omega
      have g6 : ¬ (100 + 2 * i = 33) := by omega
      have g7 : ¬ (40 ≤ 100 + 2 * i ∧ 100 + 2 * i < 44) := by omega
      have g8 : 100 ≤ 100 + 2 * i ∧ 100 + 2 * i < 128 := by omega
      have g9 : (100 + 2 * i) % 2 = 0 := by omega
      have g10 : (100 + 2 * i - 100) / 2 = i := by omega
      show (if 100 + 2 * i = 0 then _ else _) = none
      rw [if_neg g1, if_neg g2, if_neg g3, if_neg g4, if_neg g5, if_neg g6, if_neg g7, if_pos g8, if_pos g9, g10, hKi]
      rfl
    have no2 : cE G ad F Ar Kd U (wa i) = none := by
      have e0 : cArr Kd (wa i) = none := by
        unfold cArr
        have g1 : ¬ (101 + 2 * i < 100) := by omega
        have g2 : 101 + 2 * i < 128 := by omega
        have g3 : (101 + 2 * i) % 2 = 1 := by omega
        have g4 : (101 + 2 * i - 100) / 2 = i := by omega
        show (if 101 + 2 * i < 100 then _ else _) = none
        rw [if_neg g1, if_pos g2, if_pos g3, g4, hKi]
        rfl
      rw [cE_ob e0]
      unfold cOb
      have g1 : ¬ (101 + 2 * i = 0) := by omega
      have g2 : ¬ (101 + 2 * i = 9) := by omega
      have g3 : ¬ (101 + 2 * i = 19) := by omega
      have g4 : ¬ (101 + 2 * i = 28) := by omega
      have g5 : ¬ (101 + 2 * i = 32) := by omega
      have g6 : ¬ (101 + 2 * i = 33) := by omega
      have g7 : ¬ (40 ≤ 101 + 2 * i ∧ 101 + 2 * i < 44) := by omega
      have g8 : 100 ≤ 101 + 2 * i ∧ 101 + 2 * i < 128 := by omega
      have g9 : ¬ (101 + 2 * i) % 2 = 0 := by omega
      show (if 101 + 2 * i = 0 then _ else _) = none
      rw [if_neg g1, if_neg g2, if_neg g3, if_neg g4, if_neg g5, if_neg g6, if_neg g7, if_pos g8, if_neg g9]
    have G1 := P.1.grow (k := wo i) no1 hold (hP1 0 _ rfl)
    have D1 := P.2.1.grow (k := wo i) (x := .inr (2 + kd, [.int (nI i), .ref b, .int 0])) (hAH a ha) (fun j hj => by
      cases hc : cE G ad F Ar Kd U j with
      | none => exact absurd hc hj
      | some y => have := (P.1 j y hc).lt; intro z; have z : ad j = a := z; have this : ad j < H.size := this; omega)
    have G2 := G1.grow (H1 := H1) (k := wa i) (a := b) (x := .inl (G 1, 16, .inl (fun _ => 0))) (by unfold gw_set; rw [if_neg (fun z => wo_ne_wa i z.symm)]; exact no2) (fun _ _ => rfl) (hP1 1 _ rfl)
    have D2 := D1.grow (k := wa i) (a := b) (x := .inl (G 1, 16, .inl (fun _ => 0))) (hAH b hb2) (fun j hj => by
      by_cases e9 : j = wo i
      · subst e9; simp [va_up]; exact hab
      · simp only [gw_set, if_neg e9] at hj
        simp only [va_up, if_neg e9]
        cases hc : cE G ad F Ar Kd U j with
        | none => exact absurd hc hj
        | some y => have := (P.1 j y hc).lt; intro z; have z : ad j = b := z; have this : ad j < H.size := this; omega)
    have eg := cE_grown8 (G := G) (ad := ad) (F := F) (Ar := Ar) (Kd := Kd) (U := U) (i := i) (kd := kd) (a := a) (b := b) (num := nI i) hi hkd hKi hsz32
    have hP2 : gw_P D vcl (nwAd ad i a b) (cE G (nwAd ad i a b) (nwF F i (nI i)) (nwA Ar i) (va_up Kd i (some kd)) U) H1 := by rw [← eg]; exact G2
    have hD2 : gw_D A (nwAd ad i a b) (cE G (nwAd ad i a b) (nwF F i (nI i)) (nwA Ar i) (va_up Kd i (some kd)) U) := by rw [← eg]; exact D2
    have e32 : nwF F i (nI i) 32 = F 32 := by
      have g1 : ¬ 32 = 100 + 2 * i := by omega
      have g2 : ¬ 32 = 101 + 2 * i := by omega
      simp [nwF, upd, g1, g2]
    have e28 : nwF F i (nI i) 28 = F 28 := by
      have g1 : ¬ 28 = 100 + 2 * i := by omega
      have g2 : ¬ 28 = 101 + 2 * i := by omega
      simp [nwF, upd, g1, g2]
    have ea : a = nwAd ad i a b (wo i) := nwAd_o.symm
    have := kk (nwAd ad i a b) H1 locs1 (fun q h1 h2 => nwAd_n h1 h2) ⟨hP2, hD2, hS, cWf_new8 P.2.2.2.1 e32 hi hkd, cTx_ad (fun k => nwAd_n (by show 200 + k ≠ 100 + 2 * i; omega) (by show 200 + k ≠ 101 + 2 * i; omega)) e28 P.2.2.2.2.1, by rw [e32]; exact P.2.2.2.2.2⟩
    rw [nwAd_o] at this
    exact this
  rw [h32]
  rcases lt6 hkd with h | h | h | h | h | h <;> subst h
  · exact va_callr (va_runS (As := [.int 0, .int (nI i)]) (rest := rest) ⟨hx, hb, hml, hown, hts⟩ (tX0_made_0 l D G H.size (nI i)) (va_cwS 2 hts (lw_S q800 q801 q64 q802) rfl rfl rfl (by decide +kernel) hR) ⟨md_blind, fun V hV hW => ⟨rfl, by rw [hV], va_K.moved hW.alike (hK.sub [1] rfl)⟩⟩ rfl rfl hls rfl (lv_room hst) hdg hC) P.2.2.1 (fun q _ h => hAH q h) (fun q h => hAH q h) (fun b a t H1 locs1 ht hvm _ hB hz hkp hS => fin b a t H1 locs1 ht hB hkp hS)
  · exact va_callr (va_runS (As := [.int 1, .int (nI i)]) (rest := rest) ⟨hx, hb, hml, hown, hts⟩ (tX0_made_1 l D G H.size (nI i)) (va_cwS 2 hts (lw_S q800 q801 q64 q802) rfl rfl rfl (by decide +kernel) hR) ⟨md_blind, fun V hV hW => ⟨rfl, by rw [hV], va_K.moved hW.alike (hK.sub [1] rfl)⟩⟩ rfl rfl hls rfl (lv_room hst) hdg hC) P.2.2.1 (fun q _ h => hAH q h) (fun q h => hAH q h) (fun b a t H1 locs1 ht hvm _ hB hz hkp hS => fin b a t H1 locs1 ht hB hkp hS)
  · exact va_callr (va_runS (As := [.int 2, .int (nI i)]) (rest := rest) ⟨hx, hb, hml, hown, hts⟩ (tX0_made_2 l D G H.size (nI i)) (va_cwS 2 hts (lw_S q800 q801 q64 q802) rfl rfl rfl (by decide +kernel) hR) ⟨md_blind, fun V hV hW => ⟨rfl, by rw [hV], va_K.moved hW.alike (hK.sub [1] rfl)⟩⟩ rfl rfl hls rfl (lv_room hst) hdg hC) P.2.2.1 (fun q _ h => hAH q h) (fun q h => hAH q h) (fun b a t H1 locs1 ht hvm _ hB hz hkp hS => fin b a t H1 locs1 ht hB hkp hS)
  · exact va_callr (va_runS (As := [.int 3, .int (nI i)]) (rest := rest) ⟨hx, hb, hml, hown, hts⟩ (tX0_made_3 l D G H.size (nI i)) (va_cwS 2 hts (lw_S q800 q801 q64 q802) rfl rfl rfl (by decide +kernel) hR) ⟨md_blind, fun V hV hW => ⟨rfl, by rw [hV], va_K.moved hW.alike (hK.sub [1] rfl)⟩⟩ rfl rfl hls rfl (lv_room hst) hdg hC) P.2.2.1 (fun q _ h => hAH q h) (fun q h => hAH q h) (fun b a t H1 locs1 ht hvm _ hB hz hkp hS => fin b a t H1 locs1 ht hB hkp hS)
  · exact va_callr (va_runS (As := [.int 4, .int (nI i)]) (rest := rest) ⟨hx, hb, hml, hown, hts⟩ (tX0_made_4 l D G H.size (nI i)) (va_cwS 2 hts (lw_S q800 q801 q64 q802) rfl rfl rfl (by decide +kernel) hR) ⟨md_blind, fun V hV hW => ⟨rfl, by rw [hV], va_K.moved hW.alike (hK.sub [1] rfl)⟩⟩ rfl rfl hls rfl (lv_room hst) hdg hC) P.2.2.1 (fun q _ h => hAH q h) (fun q h => hAH q h) (fun b a t H1 locs1 ht hvm _ hB hz hkp hS => fin b a t H1 locs1 ht hB hkp hS)
  · exact va_callr (va_runS (As := [.int 5, .int (nI i)]) (rest := rest) ⟨hx, hb, hml, hown, hts⟩ (tX0_made_5 l D G H.size (nI i)) (va_cwS 2 hts (lw_S q800 q801 q64 q802) rfl rfl rfl (by decide +kernel) hR) ⟨md_blind, fun V hV hW => ⟨rfl, by rw [hV], va_K.moved hW.alike (hK.sub [1] rfl)⟩⟩ rfl rfl hls rfl (lv_room hst) hdg hC) P.2.2.1 (fun q _ h => hAH q h) (fun q h => hAH q h) (fun b a t H1 locs1 ht hvm _ hB hz hkp hS => fin b a t H1 locs1 ht hB hkp hS)
end WAYR
