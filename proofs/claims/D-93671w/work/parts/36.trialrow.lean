/-! ===== a call of trial ===== -/
set_option maxRecDepth 100000
def cAg (G : Nat → Nat) (U : tU) (zz : Int32) (ad0 : Nat → Nat) (Kd0 : tK) (ad : Nat → Nat) (Kd : tK) : Prop := (∀ k : Nat, cE G ad0 (fun _ => zz) (fun _ _ => 0) Kd0 U k ≠ none → ad k = ad0 k ∧ cE G ad (fun _ => zz) (fun _ _ => 0) Kd U k ≠ none) ∧ ∀ j : Nat, ad (200 + j) = ad0 (200 + j)
def trOK (Kd : tK) (Ar : tA) (w : Nat) : Prop := (∀ j, j < 6 → Kd (8 + j) = none ∨ Kd (8 + j) = some j) ∧ ∀ j, j < 16 → fits .byte (.int (Ar (wa w) j)) = true
def trOut (Kd : tK) (F : tF) (Ar : tA) (w k : Nat) (Kd1 : tK) (F1 : tF) (A1 : tA) : Prop := Kd w = some k ∧ Kd1 = va_up Kd (8 + k) (some k) ∧
  ((Kd (8 + k) = none ∧ F1 = beF (nwF F (8 + k) (-1)) (8 + k) w ∧ A1 = beA (nwA Ar (8 + k)) (8 + k) w) ∨ (Kd (8 + k) = some k ∧ F1 = beF F (8 + k) w ∧ A1 = beA Ar (8 + k) w))
theorem cE_domK {G ad ad2 : Nat → Nat} {F F2 : tF} {Ar Ar2 : tA} {Kd Kd2 : tK} {U : tU} {k : Nat} (e32 : F2 32 = F 32) (hK : ∀ j, Kd j ≠ none → Kd2 j ≠ none) (h : cE G ad F Ar Kd U k ≠ none) : cE G ad2 F2 Ar2 Kd2 U k ≠ none := by
  unfold cE at h ⊢
  cases hc2 : cArr Kd2 k with
  | some q => exact fun z => by cases z
  | none =>
    cases hc : cArr Kd k with
    | some q =>
      exfalso
      unfold cArr at hc hc2
      by_cases a1 : k < 100
      · rw [if_pos a1] at hc hc2; rw [hc] at hc2; cases hc2
      rw [if_neg a1] at hc hc2
      by_cases a2 : k < 128
      · rw [if_pos a2] at hc hc2
        by_cases a3 : k % 2 = 1
        · rw [if_pos a3] at hc hc2
          cases h1 : Kd ((k - 100) / 2) with
          | none => rw [h1] at hc; cases hc
          | some z =>
            have h2 := hK ((k - 100) / 2) (by rw [h1]; exact fun z => by cases z)
            cases h3 : Kd2 ((k - 100) / 2) with
            | none => exact h2 h3
            | some z2 => rw [h3] at hc2; cases hc2
        · rw [if_neg a3] at hc; cases hc
      · rw [if_neg a2] at hc; cases hc
    | none =>
      rw [hc] at h
      simp only at h ⊢
      unfold cOb at h ⊢
      by_cases e0 : k = 0
      · simp [e0]
      by_cases e9 : k = 9
      · simp [e9]
      by_cases e19 : k = 19
      · simp [e19]
      by_cases e28 : k = 28
      · simp [e28]
      by_cases e32' : k = 32
      · simp [e32']
      by_cases e33 : k = 33
      · simp only [e33] at h ⊢
        simp [e32] at h ⊢
        exact h
      by_cases e40 : 40 ≤ k ∧ k < 44
      · simp [e0, e9, e19, e28, e32', e33, e40]
      by_cases e100 : 100 ≤ k ∧ k < 128
      · simp only [e0, e9, e19, e28, e32', e33, e40, e100, if_true, if_false, and_self] at h ⊢
        by_cases e2 : k % 2 = 0
        · simp only [e2, if_true] at h ⊢
          cases hk1 : Kd ((k - 100) / 2) with
          | none => rw [hk1] at h; exact absurd rfl h
          | some q =>
            have h2 := hK ((k - 100) / 2) (by rw [hk1]; exact fun z => by cases z)
            cases h3 : Kd2 ((k - 100) / 2) with
            | none => exact absurd h3 h2
            | some z2 => exact fun z => by cases z
        · simp only [e2, if_false] at h
          exact absurd rfl h
      simp only [e0, e9, e19, e28, e32', e33, e40, e100, if_false] at h ⊢
      exact h
theorem tk_up_ne {Kd : tK} {i k : Nat} {j : Nat} (h : Kd j ≠ none) : va_up Kd i (some k) j ≠ none := by
  unfold va_up
  split
  · exact fun z => by cases z
  · exact h
theorem tk_up_same {Kd : tK} {i k : Nat} (h : Kd i = some k) : va_up Kd i (some k) = Kd := by
  funext j
  unfold va_up
  split
  · next e => rw [e, h]
  · rfl
section CTR
variable {p : Program} {l : Launch} {e : Env} {R : Room} {s : State} {m : MethodId} {args : Array Value} {below : List Frame} {meth : Method} {c : Code} {H : Heap} {locs : List Loc} {cells slots : Nat} {Q : State → Prop}
variable {cc : ByteArray} {nL pc : Nat} {ls : Array Slot} {rest : List Value} {D : va_G} {A : Nat → Prop} {G ad ad0 : Nat → Nat} {Kd Kd0 : tK} {U : tU} {T : tT} {zz : Int32} {F : tF} {Ar : tA}
set_option maxHeartbeats 2000000 in
theorem c_trial {w : Nat} (X : cCx p s m args meth c cc nL RX0 D G) (P : cP D A G ad s.heap Kd U T zz F Ar H locs) (hA : ∀ q, s.heap.size ≤ q → A q) (hag : cAg G U zz ad0 Kd0 ad Kd) (hw : Kd w ≠ none) (hok : trOK Kd Ar w) (hR : 5 + 1 ≤ R.frames ∧ 8 + (3 + 11) + 110 ≤ R.locals) (hC : cells + 2 ≤ R.cells ∧ slots + 19 ≤ R.slots) (hls : ls.size = nL) (hst : (rest.map fun v => v.category).sum ≤ 8) (hdg : decode cc pc = .ok (.invokevirtual 286, 3))
    (kk : ∀ (k : Nat) (ad1 : Nat → Nat) (Kd1 : tK) (F1 : tF) (A1 : tA) (H1 : Heap) (locs1 : List Loc), trOut Kd F Ar w k Kd1 F1 A1 → Kd1 (8 + k) ≠ none → cAg G U zz ad0 Kd0 ad1 Kd1 → (∀ j, Kd j ≠ none → Kd1 j ≠ none ∧ ad1 (wo j) = ad (wo j)) → ad1 0 = ad 0 → cP D A G ad1 s.heap Kd1 U T zz F1 A1 H1 locs1 → W p l e R s m args below meth c H1 locs1 (cells + 2) (slots + 19) Q (F0 m (pc + 3) ls (.ref (ad1 (wo (8 + k))) :: rest))) :
    W p l e R s m args below meth c H locs cells slots Q (F0 m pc ls (.ref (ad (wo w)) :: .ref (ad 0) :: rest)) := by
  obtain ⟨hx, hb, hml, hown, hts, hK, hlk, hN⟩ := id X
  obtain ⟨kd, hk, h6, h14⟩ := P.2.2.2.1.kd hw
  have fin : ∀ (K : Nat) (u : tM) (a : Nat) (t : State) (H1 : Heap) (locs1 : List Loc), t.heap = H1 → trOut Kd F Ar w K u.2.1 u.2.2.1 u.2.2.2 → (cBM D G ad Kd U T zz H.size u t ∧ a = u.1 (wo (8 + K))) → va_S A s.heap H1 locs1 → W p l e R s m args below meth c H1 locs1 (cells + 2) (slots + 19) Q (F0 m (pc + 3) ls (.ref a :: rest)) := by
    intro K u a t H1 locs1 ht hp hB hS
    obtain ⟨⟨b1, b2, b3, b4, b5⟩, rfl⟩ := hB
    have hup : ∀ j, Kd j ≠ none → u.2.1 j ≠ none := fun j hj => by rw [hp.2.1]; exact tk_up_ne hj
    have hcell : ∀ k, cE G ad (fun _ => zz) (fun _ _ => 0) Kd U k ≠ none → cE G u.1 (fun _ => zz) (fun _ _ => 0) u.2.1 U k ≠ none := fun k h => cE_domK rfl hup h
    refine kk K u.1 u.2.1 u.2.2.1 u.2.2.2 H1 locs1 hp (by rw [hp.2.1]; simp [va_up]) ⟨fun k h => ⟨(b4 k (hag.1 k h).2).trans (hag.1 k h).1, hcell k (hag.1 k h).2⟩, fun j => (b5 j).trans (hag.2 j)⟩ (fun j hj => ⟨hup j hj, b4 _ ?_⟩) (b4 0 ?_) ⟨by rw [← ht]; exact b1, ⟨b2.1, fun k hk => P.regA hA _ (b2.2 k hk)⟩, hS, b3⟩
    · obtain ⟨kj, hkj, hj6, hj14⟩ := P.2.2.2.1.kd hj
      rw [cE_way hj14 hkj]
      exact fun z => by cases z
    · exact fun z => by cases z
  have h8 : ∀ K, K < 6 → ∀ k, Kd (8 + K) = some k → k = K := by
    intro K hK6 k hk
    rcases hok.1 K hK6 with h | h
    · rw [h] at hk; cases hk
    · rw [h] at hk; exact (Option.some.inj hk).symm
  rcases lt6 h6 with h | h | h | h | h | h <;> subst h
  · exact va_callr (va_runV (C := RX0) (As := [.ref (ad (wo w))]) (rest := rest) ⟨hx, hb, hml, hown, hts⟩ (tX0_trial_0 l D G ad Kd U T zz F Ar w hk hok.2 H.size (fun Kd1 F1 A1 => trOut Kd F Ar w 0 Kd1 F1 A1) (fun hi => ⟨hk, rfl, Or.inl ⟨hi, rfl, rfl⟩⟩) (fun hi => ⟨hk, (tk_up_same hi).symm, Or.inr ⟨hi, rfl, rfl⟩⟩) (h8 0 (by decide))) (cwV 1 hts (lw_V q1130 q1132 qs31 q64 q1133) rfl rfl rfl (by decide +kernel) hR) (c_prev X P) rfl rfl hls rfl (lv_room hst) hdg hC) P.2.2.1 (fun q _ h => P.regA hA q h) (fun q h => P.regA hA q h) (fun u a t H1 locs1 ht hvm hp hB _ _ hS => fin 0 u a t H1 locs1 ht hp hB hS)
  · exact va_callr (va_runV (C := RX0) (As := [.ref (ad (wo w))]) (rest := rest) ⟨hx, hb, hml, hown, hts⟩ (tX0_trial_1 l D G ad Kd U T zz F Ar w hk hok.2 H.size (fun Kd1 F1 A1 => trOut Kd F Ar w 1 Kd1 F1 A1) (fun hi => ⟨hk, rfl, Or.inl ⟨hi, rfl, rfl⟩⟩) (fun hi => ⟨hk, (tk_up_same hi).symm, Or.inr ⟨hi, rfl, rfl⟩⟩) (h8 1 (by decide))) (cwV 1 hts (lw_V q1130 q1132 qs31 q64 q1133) rfl rfl rfl (by decide +kernel) hR) (c_prev X P) rfl rfl hls rfl (lv_room hst) hdg hC) P.2.2.1 (fun q _ h => P.regA hA q h) (fun q h => P.regA hA q h) (fun u a t H1 locs1 ht hvm hp hB _ _ hS => fin 1 u a t H1 locs1 ht hp hB hS)
  · exact va_callr (va_runV (C := RX0) (As := [.ref (ad (wo w))]) (rest := rest) ⟨hx, hb, hml, hown, hts⟩ (tX0_trial_2 l D G ad Kd U T zz F Ar w hk hok.2 H.size (fun Kd1 F1 A1 => trOut Kd F Ar w 2 Kd1 F1 A1) (fun hi => ⟨hk, rfl, Or.inl ⟨hi, rfl, rfl⟩⟩) (fun hi => ⟨hk, (tk_up_same hi).symm, Or.inr ⟨hi, rfl, rfl⟩⟩) (h8 2 (by decide))) (cwV 1 hts (lw_V q1130 q1132 qs31 q64 q1133) rfl rfl rfl (by decide +kernel) hR) (c_prev X P) rfl rfl hls rfl (lv_room hst) hdg hC) P.2.2.1 (fun q _ h => P.regA hA q h) (fun q h => P.regA hA q h) (fun u a t H1 locs1 ht hvm hp hB _ _ hS => fin 2 u a t H1 locs1 ht hp hB hS)
  · exact va_callr (va_runV (C := RX0) (As := [.ref (ad (wo w))]) (rest := rest) ⟨hx, hb, hml, hown, hts⟩ (tX0_trial_3 l D G ad Kd U T zz F Ar w hk hok.2 H.size (fun Kd1 F1 A1 => trOut Kd F Ar w 3 Kd1 F1 A1) (fun hi => ⟨hk, rfl, Or.inl ⟨hi, rfl, rfl⟩⟩) (fun hi => ⟨hk, (tk_up_same hi).symm, Or.inr ⟨hi, rfl, rfl⟩⟩) (h8 3 (by decide))) (cwV 1 hts (lw_V q1130 q1132 qs31 q64 q1133) rfl rfl rfl (by decide +kernel) hR) (c_prev X P) rfl rfl hls rfl (lv_room hst) hdg hC) P.2.2.1 (fun q _ h => P.regA hA q h) (fun q h => P.regA hA q h) (fun u a t H1 locs1 ht hvm hp hB _ _ hS => fin 3 u a t H1 locs1 ht hp hB hS)
  · exact va_callr (va_runV (C := RX0) (As := [.ref (ad (wo w))]) (rest := rest) ⟨hx, hb, hml, hown, hts⟩ (tX0_trial_4 l D G ad Kd U T zz F Ar w hk hok.2 H.size (fun Kd1 F1 A1 => trOut Kd F Ar w 4 Kd1 F1 A1) (fun hi => ⟨hk, rfl, Or.inl ⟨hi, rfl, rfl⟩⟩) (fun hi => ⟨hk, (tk_up_same hi).symm, Or.inr ⟨hi, rfl, rfl⟩⟩) (h8 4 (by decide))) (cwV 1 hts (lw_V q1130 q1132 qs31 q64 q1133) rfl rfl rfl (by decide +kernel) hR) (c_prev X P) rfl rfl hls rfl (lv_room hst) hdg hC) P.2.2.1 (fun q _ h => P.regA hA q h) (fun q h => P.regA hA q h) (fun u a t H1 locs1 ht hvm hp hB _ _ hS => fin 4 u a t H1 locs1 ht hp hB hS)
  · exact va_callr (va_runV (C := RX0) (As := [.ref (ad (wo w))]) (rest := rest) ⟨hx, hb, hml, hown, hts⟩ (tX0_trial_5 l D G ad Kd U T zz F Ar w hk hok.2 H.size (fun Kd1 F1 A1 => trOut Kd F Ar w 5 Kd1 F1 A1) (fun hi => ⟨hk, rfl, Or.inl ⟨hi, rfl, rfl⟩⟩) (fun hi => ⟨hk, (tk_up_same hi).symm, Or.inr ⟨hi, rfl, rfl⟩⟩) (h8 5 (by decide))) (cwV 1 hts (lw_V q1130 q1132 qs31 q64 q1133) rfl rfl rfl (by decide +kernel) hR) (c_prev X P) rfl rfl hls rfl (lv_room hst) hdg hC) P.2.2.1 (fun q _ h => P.regA hA q h) (fun q h => P.regA hA q h) (fun u a t H1 locs1 ht hvm hp hB _ _ hS => fin 5 u a t H1 locs1 ht hp hB hS)
set_option maxHeartbeats 2000000 in
theorem c_be {i w : Nat} (X : cCx p s m args meth c cc nL RX0 D G) (P : cP D A G ad s.heap Kd U T zz F Ar H locs) (hA : ∀ q, s.heap.size ≤ q → A q) (hi : Kd i ≠ none) (hw : Kd w ≠ none) (hf : ∀ j, j < 16 → fits .byte (.int (Ar (wa w) j)) = true) (hR : 1 + 1 ≤ R.frames ∧ 8 + (2 + 11) + 60 ≤ R.locals) (hC : cells ≤ R.cells ∧ slots ≤ R.slots) (hls : ls.size = nL) (hst : (rest.map fun v => v.category).sum ≤ 8) (hdg : decode cc pc = .ok (.invokevirtual 290, 3))
    (kk : ∀ (F1 : tF) (A1 : tA) (H1 : Heap) (locs1 : List Loc), F1 = beF F i w → A1 = beA Ar i w → cP D A G ad s.heap Kd U T zz F1 A1 H1 locs1 → W p l e R s m args below meth c H1 locs1 cells slots Q (F0 m (pc + 3) ls rest)) :
    W p l e R s m args below meth c H locs cells slots Q (F0 m pc ls (.ref (ad (wo w)) :: .ref (ad (wo i)) :: rest)) := by
  obtain ⟨hx, hb, hml, hown, hts, hK, hlk, hN⟩ := id X
  obtain ⟨kd, hk, h6, h14⟩ := P.2.2.2.1.kd hi
  have he := cE_way (G := G) (ad := ad) (F := F) (Ar := Ar) (U := U) h14 hk
  have fin : ∀ (u : tF × tA) (t : State) (H1 : Heap) (locs1 : List Loc), t.heap = H1 → (u.1 = beF F i w ∧ u.2 = beA Ar i w) → cB D G ad Kd U T zz u t → va_S A s.heap H1 locs1 → W p l e R s m args below meth c H1 locs1 cells slots Q (F0 m (pc + 3) ls rest) := by
    intro u t H1 locs1 ht hp hB hS
    exact kk u.1 u.2 H1 locs1 hp.1 hp.2 (c_afterA P ht hB hS)
  have hpre := c_prev (as := [.ref (ad (wo w))]) X P
  rcases lt6 h6 with h | h | h | h | h | h <;> subst h
  · exact va_callv (va_runV (C := "GateRoad$Way") (As := [.ref (ad (wo w))]) (rest := rest) ⟨hx, hb, hml, hown, hts⟩ (tX8_be l D G ad Kd U T zz F Ar i w hi hw hf H.size (fun F1 A1 => F1 = beF F i w ∧ A1 = beA Ar i w) ⟨rfl, rfl⟩) (cwV 1 hts (lw_V q1134 q1135 q1136 q89 q1143) rfl rfl rfl (by decide +kernel) hR) ⟨c_blind, va_recv hK (gw_one P.1 he) (ci := 2) (q0 := 0) rfl rfl, fun V hV hW => ⟨rfl, (hpre.2.2 V hV hW).2⟩⟩ rfl rfl hls rfl (lv_room hst) hdg hC) P.2.2.1 (fun q _ h => P.regA hA q h) (fun q h => P.regA hA q h) (fun u t H1 locs1 ht hvm hp hB _ _ hS => fin u t H1 locs1 ht hp hB hS)
  · exact va_callv (va_runU (C := "GateRoad$Tolled") (As := [.ref (ad (wo w))]) (rest := rest) ⟨hx, hb, hml, hown, hts⟩ (tX8_be l D G ad Kd U T zz F Ar i w hi hw hf H.size (fun F1 A1 => F1 = beF F i w ∧ A1 = beA Ar i w) ⟨rfl, rfl⟩) (va_cwU (owner := "GateRoad$Way") 1 hts (lw_Up (x := yX8_be) q1134 q1137 q1142 q1135 q89 q1143) rfl rfl rfl rfl (by decide +kernel) hR) ⟨c_blind, va_recv hK (gw_one P.1 he) (ci := 3) (q0 := 0) rfl rfl, fun V hV hW => ⟨rfl, (hpre.2.2 V hV hW).2⟩⟩ rfl rfl hls rfl (lv_room hst) hdg hC) P.2.2.1 (fun q _ h => P.regA hA q h) (fun q h => P.regA hA q h) (fun u t H1 locs1 ht hvm hp hB _ _ hS => fin u t H1 locs1 ht hp hB hS)
  · exact va_callv (va_runU (C := "GateRoad$Numbered") (As := [.ref (ad (wo w))]) (rest := rest) ⟨hx, hb, hml, hown, hts⟩ (tX8_be l D G ad Kd U T zz F Ar i w hi hw hf H.size (fun F1 A1 => F1 = beF F i w ∧ A1 = beA Ar i w) ⟨rfl, rfl⟩) (va_cwU (owner := "GateRoad$Way") 1 hts (lw_Up (x := yX8_be) q1134 q1137 q1140 q1135 q89 q1143) rfl rfl rfl rfl (by decide +kernel) hR) ⟨c_blind, va_recv hK (gw_one P.1 he) (ci := 4) (q0 := 0) rfl rfl, fun V hV hW => ⟨rfl, (hpre.2.2 V hV hW).2⟩⟩ rfl rfl hls rfl (lv_room hst) hdg hC) P.2.2.1 (fun q _ h => P.regA hA q h) (fun q h => P.regA hA q h) (fun u t H1 locs1 ht hvm hp hB _ _ hS => fin u t H1 locs1 ht hp hB hS)
  · exact va_callv (va_runU (C := "GateRoad$Drawn") (As := [.ref (ad (wo w))]) (rest := rest) ⟨hx, hb, hml, hown, hts⟩ (tX8_be l D G ad Kd U T zz F Ar i w hi hw hf H.size (fun F1 A1 => F1 = beF F i w ∧ A1 = beA Ar i w) ⟨rfl, rfl⟩) (va_cwU (owner := "GateRoad$Way") 1 hts (lw_Up (x := yX8_be) q1134 q1137 q1138 q1135 q89 q1143) rfl rfl rfl rfl (by decide +kernel) hR) ⟨c_blind, va_recv hK (gw_one P.1 he) (ci := 5) (q0 := 0) rfl rfl, fun V hV hW => ⟨rfl, (hpre.2.2 V hV hW).2⟩⟩ rfl rfl hls rfl (lv_room hst) hdg hC) P.2.2.1 (fun q _ h => P.regA hA q h) (fun q h => P.regA hA q h) (fun u t H1 locs1 ht hvm hp hB _ _ hS => fin u t H1 locs1 ht hp hB hS)
  · exact va_callv (va_runU (C := "GateRoad$Last") (As := [.ref (ad (wo w))]) (rest := rest) ⟨hx, hb, hml, hown, hts⟩ (tX8_be l D G ad Kd U T zz F Ar i w hi hw hf H.size (fun F1 A1 => F1 = beF F i w ∧ A1 = beA Ar i w) ⟨rfl, rfl⟩) (va_cwU (owner := "GateRoad$Way") 1 hts (lw_Up (x := yX8_be) q1134 q1137 q1139 q1135 q89 q1143) rfl rfl rfl rfl (by decide +kernel) hR) ⟨c_blind, va_recv hK (gw_one P.1 he) (ci := 6) (q0 := 0) rfl rfl, fun V hV hW => ⟨rfl, (hpre.2.2 V hV hW).2⟩⟩ rfl rfl hls rfl (lv_room hst) hdg hC) P.2.2.1 (fun q _ h => P.regA hA q h) (fun q h => P.regA hA q h) (fun u t H1 locs1 ht hvm hp hB _ _ hS => fin u t H1 locs1 ht hp hB hS)
  · exact va_callv (va_runU (C := "GateRoad$Sorted") (As := [.ref (ad (wo w))]) (rest := rest) ⟨hx, hb, hml, hown, hts⟩ (tX8_be l D G ad Kd U T zz F Ar i w hi hw hf H.size (fun F1 A1 => F1 = beF F i w ∧ A1 = beA Ar i w) ⟨rfl, rfl⟩) (va_cwU (owner := "GateRoad$Way") 1 hts (lw_Up (x := yX8_be) q1134 q1137 q1141 q1135 q89 q1143) rfl rfl rfl rfl (by decide +kernel) hR) ⟨c_blind, va_recv hK (gw_one P.1 he) (ci := 7) (q0 := 0) rfl rfl, fun V hV hW => ⟨rfl, (hpre.2.2 V hV hW).2⟩⟩ rfl rfl hls rfl (lv_room hst) hdg hC) P.2.2.1 (fun q _ h => P.regA hA q h) (fun q h => P.regA hA q h) (fun u t H1 locs1 ht hvm hp hB _ _ hS => fin u t H1 locs1 ht hp hB hS)
end CTR
