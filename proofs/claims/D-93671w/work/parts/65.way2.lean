/-! ===== way: add in the list, and what comes behind the questions ===== -/
set_option maxRecDepth 100000
section WAY2
variable {p : Program} {l : Launch} {e : Env} {R : Room} {s : State} {m : MethodId} {args : Array Value} {below : List Frame} {meth : Method} {c : Code} {H : Heap} {locs : List Loc} {cells slots : Nat} {Q : State → Prop}
variable {cc : ByteArray} {nL pc : Nat} {ls : Array Slot} {rest : List Value} {D : va_G} {A : Nat → Prop} {G ad : Nat → Nat} {Kd : tK} {U : tU} {T : tT} {zz : Int32} {F : tF} {Ar : tA}
set_option maxHeartbeats 4000000 in
theorem c_add {i kd : Nat} (X : cCx p s m args meth c cc nL RX0 D G) (P : cP D A G ad s.heap Kd U T zz F Ar H locs) (hA : ∀ q, s.heap.size ≤ q → A q) (hi : i < 8) (h32 : F 32 = nI i) (hk : Kd i = some kd) (hzL : zL (G 10) A s s.heap) (hAO : va_AO "java/lang/Object" s) (hR : 4 + 1 ≤ R.frames ∧ 8 + (2 + 11) + 120 ≤ R.locals) (hC : cells + 1 ≤ R.cells ∧ slots + 10 ≤ R.slots) (hls : ls.size = nL) (hst : (rest.map fun v => v.category).sum ≤ 8) (hdg : decode cc pc = .ok (.invokevirtual 236, 3))
    (kk : ∀ (ad1 : Nat → Nat) (H1 : Heap) (locs1 : List Loc), (∀ q, q ≠ 33 → ad1 q = ad q) → (F 32 ≠ 0 → ad1 33 = ad 33) → cP D A G ad1 s.heap Kd U T (nI (i + 1)) (upd (upd F 33 (F 33 + 1)) 32 (nI (i + 1))) Ar H1 locs1 → W p l e R s m args below meth c H1 locs1 (cells + 1) (slots + 10) Q (F0 m (pc + 3) ls (.int 1 :: rest))) :
    W p l e R s m args below meth c H locs cells slots Q (F0 m pc ls (.ref (ad (wo i)) :: .ref (ad 9) :: rest)) := by
  obtain ⟨hx, hb, hml, hown, hts, hK, hlk, hN⟩ := id X
  have hAH : ∀ q, H.size ≤ q → A q := fun q h => hA q (Nat.le_trans P.2.2.1.1 h)
  have hkd : kd < 6 := (P.2.2.2.1.2.2.2 i kd hk).1
  have hw := cE_way (G := G) (ad := ad) (F := F) (Ar := Ar) (U := U) (by omega : i < 14) hk
  have h9 : cE G ad F Ar Kd U 9 = some (.inr (9, [.int (F 33), .ref (if F 32 = 0 then G 10 else ad 33), .int (F 32)])) := rfl
  have n9 : cE G ad F Ar Kd U 9 ≠ none := fun z => by cases z
  have nw : cE G ad F Ar Kd U (wo i) ≠ none := by rw [hw]; exact fun z => by cases z
  have a9 : A (ad 9) := P.2.1.2 9 n9
  have aw : A (ad (wo i)) := P.2.1.2 _ nw
  have e9w : ad 9 ≠ ad (wo i) := fun z => absurd (P.2.1.1 9 (wo i) n9 nw z) (by show 9 ≠ 100 + 2 * i; omega)
  have hup : ∀ d, (∀ q, q ≠ 33 → va_up ad 33 d q = ad q) := fun d q h => by simp [va_up, h]
  by_cases ei : i = 0
  · subst ei
    have e0 : F 32 = 0 := h32
    have hP0 : va_P D vcl (l0C (ad 9) (ad (wo 0)) (G 10) kd (F 33) [.int (F (wo 0)), .ref (ad (wa 0)), .int (F (wa 0))]) H := by
      intro k q hq
      match k, hq with
      | 0, hq => cases hq; have := P.1 9 _ h9; rw [e0] at this; exact this
      | 1, hq => cases hq; exact P.1 _ _ hw
    refine va_calli (va_runV (C := RJ2) (As := [.ref (ad (wo 0))]) (rest := rest) ⟨hx, hb, hml, hown, hts⟩ (tJ2_add_0 l D (ad 9) (ad (wo 0)) (G 10) (G 5) kd H.size (F 33) _ e9w hkd) (cwV 1 hts (lw_V q871 q872 q873 q67 q874) rfl rfl rfl (by decide +kernel) hR) ⟨l0B_blind, va_recv hK hP0 (ci := 9) (q0 := 0) rfl rfl, fun V hV hW => ⟨rfl, by rw [hV], by rw [hV]; exact hP0, va_K.moved hW.alike (hK.sub [5] rfl), cNw.warm hW hN, ?_, va_AO.moved hW.alike hAO⟩⟩ rfl rfl hls rfl (lv_room hst) hdg hC) P.2.2.1 (fun q _ h => ?_) (fun q h => ?_) (fun r d t H1 locs1 ht hvm hp hB hz hkp hS => ?_)
    · rw [hV]
      refine (zL.moved hW.alike (zL.kept hzL P.2.2.1.2.1)).narrow (fun q h => ?_)
      rcases h with h | h | h | h
      · rw [h]; exact a9
      · rw [h]; exact aw
      · exact hAH q (Nat.le_of_eq h.symm)
      · exact hAH q h
    · rcases h with h | h | h | h
      · rw [h]; exact a9
      · rw [h]; exact aw
      · exact hAH q (Nat.le_of_eq h.symm)
      · exact hAH q h
    · rcases h with h | h | h | h
      · rw [h]; exact a9
      · rw [h]; exact aw
      · exact hAH q (Nat.le_of_eq h.symm)
      · exact hAH q h
    · subst hp
      obtain ⟨hd, hB⟩ := hB
      rw [ht] at hB
      refine kk (va_up ad 33 d) H1 locs1 (hup d) (fun z => absurd e0 z) (add_world P hi h32 hk hw ?_ (fun q hq h1 h2 h3 => hkp q hq (fun z => ?_)) (fun z => absurd rfl z) (fun _ => hd) (hAH d hd) hS)
      · have e2 : (va_up (fun _ => none) 0 (some (ad (wo 0)))) = (fun j => if j < 0 + 1 then some (ad (wo j)) else none) := by
          funext j
          by_cases ej : j = 0
          · subst ej; simp [va_up]
          · have : ¬ j < 0 + 1 := by omega
            simp [va_up, ej]
        rw [e2] at hB
        exact hB
      · rcases z with z | z | z | z
        · exact h1 z
        · exact h2 z
        · omega
        · omega
  · have e0 : ¬ F 32 = 0 := by rw [h32]; exact nI_ne0 (by omega) (by omega)
    have h33 : cE G ad F Ar Kd U 33 = some (.inl (G 5, 10, .inr (.inr (.inr (.inr (fun j => if j < i then some (ad (wo j)) else none)))))) := by
      show (if F 32 = 0 then none else some (Sum.inl (G 5, 10, Sum.inr (Sum.inr (Sum.inr (Sum.inr (fun j => if j < (F 32).toNatClampNeg then some (ad (wo j)) else none))))))) = _
      rw [if_neg e0, h32, nI_clamp (by omega)]
    have n33 : cE G ad F Ar Kd U 33 ≠ none := by rw [h33]; exact fun z => by cases z
    have a33 : A (ad 33) := P.2.1.2 33 n33
    have e93 : ad 9 ≠ ad 33 := fun z => absurd (P.2.1.1 9 33 n9 n33 z) (by decide)
    have ew3 : ad (wo i) ≠ ad 33 := fun z => absurd (P.2.1.1 (wo i) 33 nw n33 z) (by show 100 + 2 * i ≠ 33; omega)
    have hP0 : va_P D vcl (l1C (ad 9) (ad (wo i)) (ad 33) (G 5) kd (F 33) (nI i) [.int (F (wo i)), .ref (ad (wa i)), .int (F (wa i))] (fun j => if j < i then some (ad (wo j)) else none)) H := by
      intro k q hq
      match k, hq with
      | 0, hq => cases hq; have := P.1 9 _ h9; rw [if_neg e0, h32] at this; exact this
      | 1, hq => cases hq; exact P.1 _ _ hw
      | 2, hq => cases hq; exact P.1 _ _ h33
    refine W.widen (k := cells + 1) (n := slots + 10) (Nat.le_add_right _ _) (Nat.le_add_right _ _) ?_
    refine va_calli (va_runV (C := RJ2) (As := [.ref (ad (wo i))]) (rest := rest) ⟨hx, hb, hml, hown, hts⟩ (tJ2_add l D (ad 9) (ad (wo i)) (ad 33) (G 5) kd H.size (F 33) i _ _ e9w e93 ew3 hkd (by omega)) (cwV 1 hts (lw_V q871 q872 q873 q67 q874) rfl rfl rfl (by decide +kernel) ⟨Nat.le_trans (show 1 + 1 ≤ 4 + 1 by decide) hR.1, Nat.le_trans (show 8 + (2 + 11) + 30 ≤ 8 + (2 + 11) + 120 by decide) hR.2⟩) ⟨l1B_blind, va_recv hK hP0 (ci := 9) (q0 := 0) rfl rfl, fun V hV hW => ⟨rfl, by rw [hV], by rw [hV]; exact hP0, va_K.moved hW.alike (hK.sub [5] rfl), cNw.warm hW hN⟩⟩ rfl rfl hls rfl (lv_room hst) hdg hC) P.2.2.1 (fun q _ h => ?_) (fun q h => ?_) (fun r _ t H1 locs1 ht hvm hp hB hz hkp hS => ?_)
    · rcases h with h | h | h | h
      · rw [h]; exact a9
      · rw [h]; exact aw
      · rw [h]; exact a33
      · exact hAH q h
    · rcases h with h | h | h | h
      · rw [h]; exact a9
      · rw [h]; exact aw
      · rw [h]; exact a33
      · exact hAH q h
    · subst hp
      rw [ht] at hB
      refine kk (va_up ad 33 (ad 33)) H1 locs1 (hup _) (fun _ => by simp [va_up]) (add_world P hi h32 hk hw ?_ (fun q hq h1 h2 h3 => hkp q hq (fun z => ?_)) (fun _ => rfl) (fun z => absurd z ei) a33 hS)
      · have e2 : (va_up (fun j => if j < i then some (ad (wo j)) else none) i (some (ad (wo i)))) = (fun j => if j < i + 1 then some (ad (wo j)) else none) := by
          funext j
          by_cases ej : j = i
          · subst ej; simp [va_up]
          · by_cases hj : j < i
            · have : j < i + 1 := by omega
              simp [va_up, ej, hj, this]
            · have : ¬ j < i + 1 := by omega
              simp [va_up, ej, hj, this]
        rw [e2] at hB
        exact hB
      · rcases z with z | z | z | z
        · exact h1 z
        · exact h2 z
        · exact h3 z
        · omega
end WAY2
def wyA (Ar : tA) (i j c : Nat) : tA := aput Ar (wa i) (fun q => if q < c then (Ar (44 + j) q).toInt8.toInt32 else 0)
def wyF (F : tF) (i : Nat) (v : Int32) : tF := upd (upd (upd (nwF F i (nI i)) (wa i) v) 33 (F 33 + 1)) 32 (nI (i + 1))
/-- way, behind its questions -/
def wt_way (Kd : tK) (F : tF) (Ar : tA) (kind : Int32) (j : Nat) (Q : Int32 → tK → tF → tA → Prop) : Prop := ∃ i kd n : Nat, i < 8 ∧ kd < 6 ∧ F 32 = nI i ∧ kind = nI kd ∧ Kd i = none ∧ n ≤ 16 ∧ F 7 = nI n ∧ Q (nI i) (va_up Kd i (some kd)) (wyF F i (nI n)) (wyA Ar i j n)
abbrev wyRm : Room := { frames := 8, cells := 3, slots := 29, locals := 200 }
section WAY3
variable {p : Program} {l : Launch} {e : Env} {s : State} {m : MethodId} {args : Array Value} {below : List Frame} {meth : Method} {c : Code} {H : Heap} {locs : List Loc} {QC : Array Value → State → Outcome → State → Prop}
variable {ls : Array Slot} {D : va_G} {A : Nat → Prop} {G ad : Nat → Nat} {Kd : tK} {U : tU} {T : tT} {zz : Int32} {F : tF} {Ar : tA}
set_option maxHeartbeats 4000000 in
theorem way_loop {Ar0 : tA} {i j n : Nat} {Q : State → Prop} (X : cCx p s m args meth c cX0_way 6 RX0 D G) (hi : i < 8) (hK1 : Kd i ≠ none) (hj : j < 4) (hn : n ≤ 16) (h7 : F 7 = nI n)
    (kk : ∀ (H : Heap) (locs : List Loc) (ls : Array Slot), cP D A G ad s.heap Kd U T zz F (wyA Ar0 i j n) H locs → lv_has ls 6 [(0, .ref (ad 0)), (4, .ref (ad (wo i)))] → W p l e wyRm s m args below meth c H locs 2 19 Q (F0 m 163 ls [])) :
    ∀ (d k : Nat) (H : Heap) (locs : List Loc) (ls : Array Slot), d + k = n → cP D A G ad s.heap Kd U T zz F (wyA Ar0 i j k) H locs → lv_has ls 6 [(5, .int (nI k)), (0, .ref (ad 0)), (3, .ref (ad (40 + j))), (4, .ref (ad (wo i)))] → W p l e wyRm s m args below meth c H locs 2 19 Q (F0 m 132 ls []) := by
  obtain ⟨hx, hb, hml, hown, hts, hK, hlk, hN⟩ := id X
  intro d
  induction d with
  | zero =>
    intro k H locs ls hd P hl
    have hd : k = n := by omega
    subst hd
    refine lv_iload hx hb dX0_way_132 (lv_at hl 0 rfl) ?_
    refine lv_aload_n hx hb dX0_way_134 rfl (lv_at hl 1 rfl) ?_
    refine cg_carts X P dX0_way_135 ?_
    rw [h7]
    refine lv_icmp_ge (tgt := 163) hx hb dX0_way_138 (by decide) (fun _ => ?_) (fun h => absurd (nI_le (Nat.le_refl _) (by omega)) h)
    exact kk H locs ls P (lv_sub hl [1, 3] rfl)
  | succ d ih =>
    intro k H locs ls hd P hl
    have hkn : k < n := by omega
    refine lv_iload hx hb dX0_way_132 (lv_at hl 0 rfl) ?_
    refine lv_aload_n hx hb dX0_way_134 rfl (lv_at hl 1 rfl) ?_
    refine cg_carts X P dX0_way_135 ?_
    rw [h7]
    refine lv_icmp_ge (tgt := 163) hx hb dX0_way_138 (by decide) (fun h => absurd h (nI_ge hkn (by omega))) (fun _ => ?_)
    refine lv_aload hx hb dX0_way_141 (lv_at hl 3 rfl) ?_
    refine c_wg_choice X P hK1 dX0_way_143 ?_
    refine lv_iload hx hb dX0_way_146 (lv_at hl 0 rfl) ?_
    refine lv_aload_n hx hb dX0_way_148 rfl (lv_at hl 2 rfl) ?_
    refine c_sg_cells X P hj dX0_way_149 ?_
    refine lv_iload hx hb dX0_way_152 (lv_at hl 0 rfl) ?_
    refine c_iald X P (cArr_sc hj) (nI_in (by omega) (by decide)) dX0_way_154 ?_
    refine lv_i2b hx hb dX0_way_155 rfl ?_
    refine c_bast X P (c_warr P hK1) (nI_in (by omega) (by decide)) dX0_way_156 (fun A1 H1 locs1 eA P _ => ?_)
    refine lv_iinc (v := nI (k + 1)) (lv' := [(5, .int (nI (k + 1))), (0, .ref (ad 0)), (3, .ref (ad (40 + j))), (4, .ref (ad (wo i)))]) hx hb dX0_way_157 hl (k := 0) rfl (nI_1 k) (by decide) rfl (fun ls hl => ?_)
    refine lv_goto (tgt := 132) hx hb dX0_way_160 (by decide) ?_
    have e44 : wyA Ar0 i j k (44 + j) = Ar0 (44 + j) := by
      have : ¬ 44 + j = 101 + 2 * i := by omega
      simp [wyA, aput, this]
    have eA2 : A1 = wyA Ar0 i j (k + 1) := by
      rw [eA, nI_clamp (by omega), e44]
      funext q
      by_cases hq : q = wa i
      · subst hq
        simp only [aset, aput, wyA, if_true]
        funext x
        by_cases hx2 : x = k
        · subst hx2
          simp [upd, vp_nar, narrow]
        · by_cases hlt : x < k
          · have : x < k + 1 := by omega
            simp [upd, hx2, hlt, this]
          · have : ¬ x < k + 1 := by omega
            simp [upd, hx2, hlt, this]
      · simp [aset, aput, wyA, hq]
    subst eA2
    exact ih (k + 1) H1 locs1 ls (by omega) P hl
set_option maxHeartbeats 4000000 in
theorem way_tail {kind : Int32} {j : Nat} {Q : Int32 → tK → tF → tA → Prop} (X : cCx p s m args meth c cX0_way 6 RX0 D G) (hr : meth.sig.returnType = some .int) (hA : ∀ q, s.heap.size ≤ q → A q) (hzL : zL (G 10) A s s.heap) (hAO : va_AO "java/lang/Object" s) (hj : j < 4)
    (hret : ∀ (r : Int32) (ad1 : Nat → Nat) (Kd1 : tK) (F1 : tF) (A1 : tA) (H1 : Heap) (locs1 : List Loc) (t : State), Q r Kd1 F1 A1 → cP D A G ad1 s.heap Kd1 U T (F1 32) F1 A1 H1 locs1 → ad1 0 = ad 0 → (∀ k, ad1 (200 + k) = ad (200 + k)) → t.heap = H1 → QC args s (.returned (some (.int r))) t)
    (P : cP D A G ad s.heap Kd U T zz F Ar H locs) (hw : wt_way Kd F Ar kind j Q) (hl : lv_has ls 6 [(0, .ref (ad 0)), (1, .int kind), (3, .ref (ad (40 + j)))]) : W p l e wyRm s m args below meth c H locs 0 0 (MQ below QC args s 3 29 A) (F0 m 107 ls []) := by
  obtain ⟨hx, hb, hml, hown, hts, hK, hlk, hN⟩ := id X
  obtain ⟨i, kd, n, hi, hkd, h32, rfl, hKi, hn, h7, hq⟩ := hw
  refine lv_iload_n hx hb dX0_way_107 rfl (lv_at hl 1 rfl) ?_
  refine lv_aload_n hx hb dX0_way_108 rfl (lv_at hl 0 rfl) ?_
  refine cg_ways X P dX0_way_109 ?_
  refine c_lsize X P ⟨Nat.le_of_ble_eq_true rfl, Nat.le_of_ble_eq_true rfl⟩ hl.1 (Nat.le_of_ble_eq_true rfl) ⟨Nat.zero_le _, Nat.zero_le _⟩ dX0_way_112 ?_
  refine c_made X P hA hi hkd hKi h32 ⟨Nat.le_of_ble_eq_true rfl, Nat.le_of_ble_eq_true rfl⟩ ⟨Nat.le_of_ble_eq_true rfl, Nat.le_of_ble_eq_true rfl⟩ hl.1 (Nat.le_of_ble_eq_true rfl) dX0_way_115 (fun ad1 H1 locs1 had P1 => ?_)
  have hK1 : va_up Kd i (some kd) i = some kd := by simp [va_up]
  have hKn : va_up Kd i (some kd) i ≠ none := by rw [hK1]; exact fun z => by cases z
  have a0 : ad1 0 = ad 0 := had 0 (by show 0 ≠ 100 + 2 * i; omega) (by show 0 ≠ 101 + 2 * i; omega)
  have a40 : ad1 (40 + j) = ad (40 + j) := had _ (by show 40 + j ≠ 100 + 2 * i; omega) (by show 40 + j ≠ 101 + 2 * i; omega)
  rw [← a0, ← a40] at hl
  refine lv_astore (lv' := [(4, .ref (ad1 (wo i))), (0, .ref (ad1 0)), (1, .int (nI kd)), (3, .ref (ad1 (40 + j)))]) hx hb dX0_way_118 hl (by decide) rfl (fun ls hl => ?_)
  refine lv_aload hx hb dX0_way_120 (lv_at hl 0 rfl) ?_
  refine lv_aload_n hx hb dX0_way_122 rfl (lv_at hl 1 rfl) ?_
  refine cg_carts X P1 dX0_way_123 ?_
  have e7 : nwF F i (nI i) 7 = nI n := by
    have g1 : ¬ 7 = 100 + 2 * i := by omega
    have g2 : ¬ 7 = 101 + 2 * i := by omega
    simp [nwF, upd, g1, g2, h7]
  rw [e7]
  refine c_wp_carts X P1 hKn dX0_way_126 (fun F2 H2 locs2 eF P2 _ => ?_)
  have e72 : F2 7 = nI n := by
    have g2 : ¬ 7 = 101 + 2 * i := by omega
    rw [eF]
    simp [upd, g2, e7]
  have e322 : F2 32 = nI i := by
    have g1 : ¬ 32 = 100 + 2 * i := by omega
    have g2 : ¬ 32 = 101 + 2 * i := by omega
    rw [eF]
    simp [nwF, upd, g1, g2, h32]
  have e332 : F2 33 = F 33 := by
    have g1 : ¬ 33 = 100 + 2 * i := by omega
    have g2 : ¬ 33 = 101 + 2 * i := by omega
    rw [eF]
    simp [nwF, upd, g1, g2]
  refine lv_iconst (v := 0) hx hb dX0_way_129 (by decide) ?_
  refine lv_istore (lv' := [(5, .int 0), (4, .ref (ad1 (wo i))), (0, .ref (ad1 0)), (1, .int (nI kd)), (3, .ref (ad1 (40 + j)))]) hx hb dX0_way_130 hl (by decide) rfl (fun ls hl => ?_)
  have eA0 : nwA Ar i = wyA Ar i j 0 := by
    unfold nwA wyA
    congr 1
  rw [eA0] at P2
  refine way_loop (Ar0 := Ar) (i := i) (j := j) (n := n) X hi hKn hj hn e72 (fun H3 locs3 ls P3 hl => ?_) n 0 H2 locs2 ls rfl P2 (lv_sub hl [0, 2, 4, 1] rfl)
  refine lv_aload_n hx hb dX0_way_163 rfl (lv_at hl 0 rfl) ?_
  refine cg_ways X P3 dX0_way_164 ?_
  refine lv_aload hx hb dX0_way_167 (lv_at hl 1 rfl) ?_
  refine c_add X P3 hA hi e322 hK1 hzL hAO ⟨Nat.le_of_ble_eq_true rfl, Nat.le_of_ble_eq_true rfl⟩ ⟨Nat.le_of_ble_eq_true rfl, Nat.le_of_ble_eq_true rfl⟩ hl.1 (Nat.le_of_ble_eq_true rfl) dX0_way_169 (fun ad2 H4 locs4 had2 _ P4 => ?_)
  have aw : ad2 (wo i) = ad1 (wo i) := had2 _ (by show 100 + 2 * i ≠ 33; omega)
  rw [← aw] at hl
  refine lv_pop hx hb dX0_way_172 rfl ?_
  refine lv_aload hx hb dX0_way_173 (lv_at hl 1 rfl) ?_
  refine c_wg_number X P4 hKn dX0_way_175 ?_
  have eFF : upd (upd F2 33 (F2 33 + 1)) 32 (nI (i + 1)) = wyF F i (nI n) := by
    rw [e332, eF]
    rfl
  rw [eFF] at P4 ⊢
  have enum : wyF F i (nI n) (wo i) = nI i := by
    have g1 : ¬ 100 + 2 * i = 32 := by omega
    have g2 : ¬ 100 + 2 * i = 33 := by omega
    have g3 : ¬ 100 + 2 * i = 101 + 2 * i := by omega
    simp [wyF, nwF, upd, g1, g2, g3]
  rw [enum]
  have hz32 : wyF F i (nI n) 32 = nI (i + 1) := rfl
  exact W.iret hx hb hr (fun t ht hW => hret _ _ _ _ _ _ _ t hq (by rw [hz32]; exact P4) ((had2 0 (by decide)).trans a0) (fun k => (had2 _ (by omega)).trans (had _ (by show 200 + k ≠ 100 + 2 * i; omega) (by show 200 + k ≠ 101 + 2 * i; omega))) ht) P4.2.2.1.2.2 dX0_way_178 hlk
end WAY3
