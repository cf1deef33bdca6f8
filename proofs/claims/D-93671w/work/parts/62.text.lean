/-! ===== text: a text read into the world ===== -/
set_option maxRecDepth 100000
def uMg (U : tU) (N1 : Nat → Option va_E) (ar : Nat) (x : va_E) : Nat → Option va_E := fun j => if j = ar then some x else match N1 j with
  | some y => some y
  | none => U.1 j
theorem cE_lowU {G ad : Nat → Nat} {F : tF} {Ar : tA} {Kd : tK} {U U1 : tU} {k : Nat} (h1 : k < 200) (h2 : k = 28 → U1.2 = U.2) : cE G ad F Ar Kd U1 k = cE G ad F Ar Kd U k := by
  unfold cE
  cases cArr Kd k with
  | some q => rfl
  | none =>
    simp only
    unfold cOb
    by_cases e28 : k = 28
    · subst e28
      rw [h2 rfl]
      rfl
    · simp only [e28, if_false, show ¬ 200 ≤ k by omega]
theorem nd_ge {U : tU} {N1 : Nat → Option va_E} {ar sz : Nat} {x : va_E} (hN : ∀ q, N1 q ≠ none → sz ≤ q) (har : sz ≤ ar) {j : Nat} (h : uMg U N1 ar x j ≠ none) : uMg U N1 ar x j = U.1 j ∨ sz ≤ j := by
  unfold uMg at h ⊢
  by_cases e : j = ar
  · exact Or.inr (by omega)
  · rw [if_neg e]
    cases hc : N1 j with
    | none => exact Or.inl rfl
    | some y => exact Or.inr (hN j (by rw [hc]; exact fun z => by cases z))
/-- the world with the nodes of a text -/
theorem tx_grow {D : va_G} {A : Nat → Prop} {G ad : Nat → Nat} {F : tF} {Ar : tA} {Kd : tK} {U : tU} {N1 : Nat → Option va_E} {ar sz r tx : Nat} {x : va_E} {H : Heap} (hP : gw_P D vcl ad (cE G ad F Ar Kd U) H) (hD : gw_D A ad (cE G ad F Ar Kd U)) (hadj : ∀ j, ad (200 + j) = j) (hlt : ∀ k y, cE G ad F Ar Kd U k = some y → ad k < sz) (hN : ∀ q, N1 q ≠ none → sz ≤ q) (hNP : nP D N1 r tx H) (har : sz ≤ ar) (hx : va_at D vcl (ar, x) H) (hA : ∀ q, sz ≤ q → A q) :
    gw_P D vcl ad (cE G ad F Ar Kd (uMg U N1 ar x, U.2)) H ∧ gw_D A ad (cE G ad F Ar Kd (uMg U N1 ar x, U.2)) := by
  have key : ∀ k, cE G ad F Ar Kd (uMg U N1 ar x, U.2) k ≠ none → cE G ad F Ar Kd (uMg U N1 ar x, U.2) k = cE G ad F Ar Kd U k ∨ (∃ j, k = 200 + j ∧ sz ≤ j) := by
    intro k hk
    by_cases h2 : k < 200
    · exact Or.inl (cE_lowU h2 (fun _ => rfl))
    · obtain ⟨j, rfl⟩ : ∃ j, k = 200 + j := ⟨k - 200, by omega⟩
      rw [cE_node] at hk
      rcases nd_ge hN har hk with h | h
      · exact Or.inl (by rw [cE_node, cE_node]; exact h)
      · exact Or.inr ⟨j, rfl, h⟩
  refine ⟨fun k y hk => ?_, fun i j hi hj he => ?_, fun k hk => ?_⟩
  · by_cases h2 : k < 200
    · rw [cE_lowU (U := U) (U1 := (uMg U N1 ar x, U.2)) h2 (fun _ => rfl)] at hk
      exact hP k y hk
    · obtain ⟨j, rfl⟩ : ∃ j, k = 200 + j := ⟨k - 200, by omega⟩
      rw [cE_node] at hk
      rw [hadj]
      have hk : uMg U N1 ar x j = some y := hk
      unfold uMg at hk
      by_cases e : j = ar
      · rw [if_pos e] at hk
        cases hk
        rw [e]
        exact hx
      · rw [if_neg e] at hk
        cases hc : N1 j with
        | none =>
          rw [hc] at hk
          have := hP (200 + j) y (by rw [cE_node]; exact hk)
          rw [hadj] at this
          exact this
        | some z =>
          rw [hc] at hk
          cases hk
          exact (hNP j _ hc).1
  · have old : ∀ k, cE G ad F Ar Kd (uMg U N1 ar x, U.2) k ≠ none → cE G ad F Ar Kd (uMg U N1 ar x, U.2) k = cE G ad F Ar Kd U k → ad k < sz := by
      intro k hk e
      rw [e] at hk
      cases hc : cE G ad F Ar Kd U k with
      | none => exact absurd hc hk
      | some y => exact hlt k y hc
    rcases key i hi with h1 | ⟨a, rfl, ha⟩ <;> rcases key j hj with h2 | ⟨b, rfl, hb⟩
    · exact hD.1 i j (by rw [← h1]; exact hi) (by rw [← h2]; exact hj) he
    · have := old i hi h1
      rw [he, hadj] at this
      omega
    · have := old j hj h2
      rw [← he, hadj] at this
      omega
    · rw [hadj, hadj] at he
      rw [he]
  · rcases key k hk with h | ⟨j, rfl, hj⟩
    · exact hD.2 k (by rw [← h]; exact hk)
    · rw [hadj]
      exact hA j hj
theorem cE_tx {G ad : Nat → Nat} {F : tF} {Ar : tA} {Kd : tK} {M : Nat → Option va_E} {u2 : Nat → Option Nat} {tc ar : Nat} (hadj : ∀ j, ad (200 + j) = j) : gw_set (cE G ad F Ar Kd (M, u2)) 28 (.inl (G 3, 6, .inr (.inr (.inr (.inr (va_up (fun j => (u2 j).map (fun t => ad (200 + t))) tc (some ar))))))) = cE G ad F Ar Kd (M, va_up u2 tc (some ar)) := by
  funext k
  by_cases e : k = 28
  · subst e
    have e2 : va_up (fun j => (u2 j).map (fun t => ad (200 + t))) tc (some ar) = fun j => (va_up u2 tc (some ar) j).map (fun t => ad (200 + t)) := by
      funext j
      by_cases ej : j = tc
      · simp [va_up, ej, hadj]
      · simp [va_up, ej]
    rw [e2]
    simp only [gw_set, if_true]
    rfl
  · simp only [gw_set, if_neg e]
    by_cases h2 : k < 200
    · exact cE_lowU h2 (fun z => absurd z e)
    · obtain ⟨j, rfl⟩ : ∃ j, k = 200 + j := ⟨k - 200, by omega⟩
      rw [cE_node, cE_node]
def tset (T : tT) (tc : Nat) (c0 c1 : List Int32) : tT := fun j p => if j = tc then (if p = 0 then c0 else c1) else T j p
/-- the texts of the world with a new one -/
theorem cTx_new {G ad : Nat → Nat} {U : tU} {T : tT} {F F1 : tF} {N1 : Nat → Option va_E} {ar sz tc a0 a1 n : Nat} {c0 c1 : List Int32} (hadj : ∀ j, ad (200 + j) = j) (hT : cTx G ad U T F) (h28 : F 28 = nI tc) (ht6 : tc < 6) (hN : ∀ q, N1 q ≠ none → sz ≤ q) (hU : ∀ j, U.1 j ≠ none → j < sz) (har : sz ≤ ar) (hNa : N1 ar = none) (hn : n ≤ 160) (g0 : cTr N1 idA n a0 c0) (g1 : cTr N1 idA n a1 c1) (hF : (F1 28).toInt ≤ (F 28).toInt + 1) :
    cTx G ad (uMg U N1 ar (.inl (G 6, 2, .inr (.inr (.inr (.inr (fun i => if i = 0 then some (ad (200 + a0)) else some (ad (200 + a1)))))))), va_up U.2 tc (some ar)) (tset T tc c0 c1) F1 := by
  have hold : ∀ x j y, U.1 j = some y → uMg U N1 ar x j = some y := by
    intro x j y hj
    have hjs : j < sz := hU j (by rw [hj]; exact fun z => by cases z)
    unfold uMg
    rw [if_neg (by omega)]
    cases hc : N1 j with
    | none => exact hj
    | some z => exact absurd (hN j (by rw [hc]; exact fun z => by cases z)) (by omega)
  have hnew : ∀ x j y, N1 j = some y → uMg U N1 ar x j = some y := by
    intro x j y hj
    unfold uMg
    rw [if_neg (fun z => by rw [z, hNa] at hj; cases hj), hj]
  have e28 : (F 28).toInt = (tc : Int) := by rw [h28, nI_toInt (by omega)]
  intro j hj
  by_cases e : j = tc
  · subst e
    refine ⟨ar, a0, a1, by simp [va_up], by show uMg _ _ _ _ _ = _; unfold uMg; rw [if_pos rfl], ?_, ?_⟩
    · have e1 : tset T j c0 c1 j 0 = c0 := by simp [tset]
      rw [e1]
      exact cTr_ad (fun k => by rw [hadj, idA_at]) 200 a0 c0 (cTr_mono (hnew _) n 200 a0 c0 (by omega) g0)
    · have e1 : tset T j c0 c1 j 1 = c1 := by simp [tset]
      rw [e1]
      exact cTr_ad (fun k => by rw [hadj, idA_at]) 200 a1 c1 (cTr_mono (hnew _) n 200 a1 c1 (by omega) g1)
  · obtain ⟨t, k0, k1, h1, h2, h3, h4⟩ := hT j (by omega)
    refine ⟨t, k0, k1, by simp [va_up, e]; exact h1, hold _ t _ h2, ?_, ?_⟩
    · have e1 : tset T tc c0 c1 j 0 = T j 0 := by simp [tset, e]
      rw [e1]
      exact cTr_mono (hold _) 200 200 k0 _ (Nat.le_refl _) h3
    · have e1 : tset T tc c0 c1 j 1 = T j 1 := by simp [tset, e]
      rw [e1]
      exact cTr_mono (hold _) 200 200 k1 _ (Nat.le_refl _) h4
theorem arr2_eq {D : va_G} {ar : Nat} {cA : ClassId} {b0 b1 : Nat} {H : Heap} (h : va_P D vcl [(ar, .inl (cA, 2, .inr (.inr (.inr (.inr (va_up (va_up (fun _ => none) 0 (some b0)) 1 (some b1)))))))] H) : va_at D vcl (ar, .inl (cA, 2, .inr (.inr (.inr (.inr (fun i => if i = 0 then some b0 else some b1)))))) H := by
  have h1 := h 0 _ rfl
  show H[ar]? = some (vp_cell _ _)
  have h1 : H[ar]? = some (vp_cell _ _) := h1
  rw [h1, vp_cell_q, vp_cell_q]
  congr 1
section XGA
variable {p : Program} {l : Launch} {e : Env} {R : Room} {s : State} {m : MethodId} {args : Array Value} {below : List Frame} {meth : Method} {c : Code} {H : Heap} {locs : List Loc} {cells slots mc ms : Nat} {Q : State → Prop} {free : Addr → Prop} {rest : List Value} {g : JFrame}
theorem x_goA {Qa : State → Outcome → State → Prop} (hr : xRun p l e R s m args below meth c H locs cells slots mc ms g rest Qa free)
    (kr : ∀ (v : Option Value) (st t : State) (L : List Loc), st.heap = H → s.WarmedH t.vm → (∀ q ∈ L, free q.base) → Qa st (.returned v) t → W p l e R s m args below meth c t.heap (locs ++ L) (cells + mc) (slots + ms) Q { g with pc := g.pc + 3, stack := v.toList ++ rest })
    (kt : ∀ (a : Addr) (st t : State) (L : List Loc), st.heap = H → s.WarmedH t.vm → (∀ q ∈ L, free q.base) → Qa st (.threw a) t → xW p l e R s m args below meth c t.heap (locs ++ L) (cells + mc) (slots + ms) Q { g with stack := rest } a) :
    W p l e R s m args below meth c H locs cells slots Q g := by
  intro T hT X
  obtain ⟨o, st, t, T', h0, X', ⟨L, hfe, hL⟩, e1, e2, hq, go⟩ := hr T hT X
  have hW : s.WarmedH t.vm := by rw [← e2]; exact (X' L _ _ hfe).warmed
  cases o with
  | returned v =>
    obtain ⟨t2, a1, b1⟩ := kr v st t L h0 hW hL hq T' e1 (X' L _ _ hfe)
    exact ⟨t2, go t2 a1, b1⟩
  | threw a =>
    obtain ⟨t2, a1, b1⟩ := kt a st t L h0 hW hL hq T' e1 (X' L _ _ hfe)
    exact ⟨t2, go t2 a1, b1⟩
end XGA
theorem cP.keepL {D : va_G} {G ad : Nat → Nat} {H0 : Heap} {Kd : tK} {U : tU} {T : tT} {zz : Int32} {F : tF} {Ar : tA} {H H1 : Heap} {locs locs1 : List Loc} {A : Nat → Prop} (P : cP D A G ad H0 Kd U T zz F Ar H locs) (hz : H.size ≤ H1.size) (hk : ∀ q : Nat, q < H.size → H1[q]? = H[q]?) (hl : ∀ q ∈ locs1, A q.base) : cP D A G ad H0 Kd U T zz F Ar H1 locs1 :=
  ⟨fun k x hx => (P.1 k x hx).kept (hk _ (P.1 k x hx).lt), P.2.1, ⟨Nat.le_trans P.2.2.1.1 hz, fun q h1 h2 => (hk q (Nat.lt_of_lt_of_le h1 P.2.2.1.1)).trans (P.2.2.1.2.1 q h1 h2), hl⟩, P.2.2.2⟩
def rho0 : tR := (0, 0, 0, none, 0, 0)
def rG3 (G : Nat → Nat) (V : State) : Prop := ∃ kA : Class, V.vm.classes[G 3]? = some kA ∧ kA.kind = .array (G 6) (.array (.object "GateRoad$Node"))
theorem rG3.moved {G : Nat → Nat} {u U : State} (hvm : u.vm.Alike U.vm) (h : rG3 G u) : rG3 G U := by
  obtain ⟨kA, h1, h2⟩ := h
  obtain ⟨k', hk', he⟩ := hvm.2.2 _ _ h1
  exact ⟨k', hk', by rw [he]; exact h2⟩
def cPt (D : va_G) (G ad : Nat → Nat) (Kd : tK) (U : tU) (T : tT) (zz : Int32) (F : tF) (Ar : tA) (sz : Nat) (V : State) : Prop := cPb D G ad Kd U T zz F Ar sz V ∧ rK (cReg G ad Kd U zz sz) V V.heap ∧ va_AO "GateRoad$Node" V ∧ rG3 G V
theorem ct_blind {D : va_G} {G ad : Nat → Nat} {Kd : tK} {U : tU} {T : tT} {zz : Int32} {F : tF} {Ar : tA} {sz : Nat} {as : List Value} : FrameBlind (va_Pc as (cPt D G ad Kd U T zz F Ar sz)) := fun a V g mk q => by
  obtain ⟨q0, q1, q2, q3, q4⟩ := q
  exact ⟨q0, (c_blind a V g mk ⟨q0, q1⟩).2, q2.same rfl, q3.moved (Vm.Alike.refl V.vm), q4.moved (Vm.Alike.refl V.vm)⟩
def txB (D : va_G) (G ad : Nat → Nat) (Kd : tK) (U : tU) (zz : Int32) (Ar : tA) (sz : Nat) (u : tU × tT × tF) (t : State) : Prop := gw_P D vcl ad (cE G ad u.2.2 Ar Kd u.1) t.heap ∧ gw_D (cReg G ad Kd U zz sz) ad (cE G ad u.2.2 Ar Kd u.1) ∧ cWf u.2.2 Kd ∧ cTx G ad u.1 u.2.1 u.2.2 ∧ u.2.2 32 = zz
def wc_text (T : tT) (F : tF) (Ar : tA) (tc n : Nat) (Q : Int32 → tT → tF → Prop) : Prop := (tc = 6 → Q (-4) T F) ∧ (tc ≠ 6 → (∀ pl, sParts (Ar 30) n rho0 = .inl pl → Q (-100 - nI pl) T (upd F 30 0)) ∧ ∀ c0 c1, sParts (Ar 30) n rho0 = .inr (c0, c1) → Q (nI tc) (tset T tc c0 c1) (upd (upd F 30 0) 28 (nI (tc + 1))))
set_option maxHeartbeats 4000000 in
theorem twc_text (l : Launch) (D : va_G) (G ad : Nat → Nat) (Kd : tK) (U : tU) (T : tT) (zz : Int32) (F : tF) (Ar : tA) (tc n sz : Nat) (h28 : F 28 = nI tc) (ht6 : tc ≤ 6) (h30 : F 30 = nI n) (hn : n ≤ 160) (hadj : ∀ j, ad (200 + j) = j) (Q : Int32 → tT → tF → Prop) (hw : wc_text T F Ar tc n Q) :
    Met l yX0_text (wsW_ yX0_text cX0_text 4 (some .int) [(12, 39, 47, 338), (12, 39, 63, 0), (47, 56, 63, 0)]) { frames := 54, cells := 5 * 160 + 7, slots := 36 * 160 + 50, locals := 1210 } (va_Pc [.ref (ad 0)] (cPt D G ad Kd U T zz F Ar sz)) (va_Qi (fun r (u : tU × tT × tF) => Q r u.2.1 u.2.2) (txB D G ad Kd U zz Ar sz) (cReg G ad Kd U zz sz)) (5 * 160 + 7) (36 * 160 + 50) (cReg G ad Kd U zz sz) := by
  refine va_MetWx (cc := cX0_text) (maxL := 4) (ret := some .int) (hh := [(12, 39, 47, 338), (12, 39, 63, 0), (47, 56, 63, 0)]) (by decide) rfl ?_
  intro p e s m args below meth c s₁ B hml hh0 hv
  obtain ⟨rfl, hBb, hKc, hAO, hG3⟩ := hv
  obtain ⟨hsz, P, hK, hN⟩ := c_start hBb
  subst hsz
  have hts := atoms_spec (ws := wsW_ yX0_text cX0_text 4 (some .int) [(12, 39, 47, 338), (12, 39, 63, 0), (47, 56, 63, 0)]) B.pre
  have hts : ∀ w ∈ lw_all, w.before _ s = true := fun w h => hts w (List.mem_cons_of_mem _ h)
  have hl := lv_entry [Value.ref (ad 0)] (n := 4) (Nat.le_of_ble_eq_true rfl)
  rw [lg_entry_eq]
  generalize (lg_sl [Value.ref (ad 0)] ++ List.replicate (4 - (lg_sl [Value.ref (ad 0)]).length) Slot.unset).toArray = ls at hl ⊢
  have hl : lv_has ls 4 [(0, .ref (ad 0))] := hl
  have hown : s.vm.findClass RX0 = some m.cls := findClass_of_methodNamed B.named
  have hr := B.returns
  have X : cCx p s m _ meth c cX0_text 4 RX0 D G := ⟨B.exec, B.bytes, hml, hown, hts, hK, B.notSynchronized, hN⟩
  obtain ⟨hx, hb, -, -, -, -, hlk, -⟩ := id X
  have hAg : ∀ q, s.heap.size ≤ q → cReg G ad Kd U zz s.heap.size q := fun q h => Or.inr h
  refine lv_aload_n hx hb dX0_text_0 rfl (lv_at hl 0 rfl) ?_
  refine cg_textCount X P dX0_text_1 ?_
  refine lv_bipush (v := 6) hx hb dX0_text_4 (by decide) ?_
  refine lv_icmp_ne (tgt := 12) hx hb dX0_text_6 (by decide) (fun c_1 => ?_) (fun c_1 => ?_)
  rotate_left
  · have h6 : tc = 6 := (nI_eq (by omega) (by decide)).mp (show nI tc = nI 6 by rw [← h28]; exact c_1)
    refine lv_bipush (v := -4) hx hb dX0_text_9 (by decide) ?_
    refine W.widen (k := 5 * 160 + 7) (n := 36 * 160 + 50) (Nat.zero_le _) (Nat.zero_le _) ?_
    exact W.iret hx hb hr (fun t ht hW => ⟨⟨_, (U, T, F), rfl, hw.1 h6, by show gw_P _ _ _ _ t.heap; rw [ht]; exact P.1, P.2.1, P.2.2.2⟩, P.2.2.1.F ht⟩) (fun q h => by cases h) dX0_text_11 hlk
  have h6 : tc ≠ 6 := fun z => c_1 (by rw [h28, z]; rfl)
  have hw := hw.2 h6
  refine lv_aload_n hx hb dX0_text_12 rfl (lv_at hl 0 rfl) ?_
  refine cg_texts X P dX0_text_13 ?_
  refine lv_aload_n hx hb dX0_text_16 rfl (lv_at hl 0 rfl) ?_
  refine cg_textCount X P dX0_text_17 ?_
  refine x_new (ci := 13) (fs := [.null, .int 0, .int 0, .int 0, .int 0, .null, .int 0, .int 0]) (C := RX2) (T := TX2) (N := 8) hx hb hts in_X2 tyX2 tyX2_ok hown (hts _ q213) (hts _ q214) (hts _ q73) hK rfl (fun j hj => by rcases (show j = 0 ∨ j = 1 ∨ j = 2 ∨ j = 3 ∨ j = 4 ∨ j = 5 ∨ j = 6 ∨ j = 7 by omega) with rfl | rfl | rfl | rfl | rfl | rfl | rfl | rfl <;> rfl) (Nat.le_of_ble_eq_true rfl) (Nat.le_of_ble_eq_true rfl) dX0_text_20 (fun H1 hU1 hz1 ho1 => ?_)
  obtain ⟨r, hrr⟩ : ∃ r, r = s.heap.size := ⟨_, rfl⟩
  rw [← hrr] at hU1
  have P1 : cP D (cReg G ad Kd U zz s.heap.size) G ad s.heap Kd U T zz F Ar H1 [] := P.keep (locs1 := []) (by omega) ho1 hAg (fun q h => by cases h)
  have hltU : ∀ k y, cE G ad F Ar Kd U k = some y → ad k < s.heap.size := fun k y h => (P.1 k y h).lt
  refine W.eq (g2 := F0 m 23 ls [.ref r, .int (F 28), .ref (ad 28)]) (by rw [hrr]) ?_
  refine lv_dup hx hb dX0_text_23 rfl ?_
  refine lv_aload_n hx hb dX0_text_24 rfl (lv_at hl 0 rfl) ?_
  refine cg_tape X P1 dX0_text_25 ?_
  refine lv_aload_n hx hb dX0_text_28 rfl (lv_at hl 0 rfl) ?_
  refine cg_taped X P1 dX0_text_29 ?_
  rw [h30]
  have h30a : cE G ad F Ar Kd U 30 = some (.inl (G 1, 160, .inl (Ar 30))) := rfl
  have htx : ad 30 < s.heap.size := hltU 30 _ h30a
  have hne : r ≠ ad 30 := by omega
  refine va_callv (A0 := fun q => s.heap.size ≤ q) (va_runI (As := [.ref (ad 30), .int (nI n)]) (rest := [.ref r, .int (F 28), .ref (ad 28)]) ⟨hx, hb, hml, hown, hts⟩ (tX2_init l D r (ad 30) n) (cwI 2 hts (lw_meth q217) rfl rfl rfl (hts _ q73) (hts _ q215) (hts _ q216) rfl (by decide +kernel) ⟨Nat.le_of_ble_eq_true rfl, Nat.le_of_ble_eq_true rfl⟩) ⟨ni_blind, fun V hV hW => ⟨rfl, by rw [hV]; exact hU1, va_K.moved hW.alike (hK.sub [] rfl)⟩⟩ rfl rfl hl.1 rfl (lv_room (Nat.le_of_ble_eq_true rfl)) dX0_text_32 ⟨Nat.le_of_ble_eq_true rfl, Nat.le_of_ble_eq_true rfl⟩) (⟨by omega, fun q h _ => ho1 q h, fun l h => by cases h⟩ : va_S (fun q => s.heap.size ≤ q) s.heap H1 []) (fun q _ h => by rw [show q = r from h]; omega) (fun q h => by rw [show q = r from h]; omega) (fun u t H2 locs2 ht hvm hp hB hz2 hkp hS2 => ?_)
  have hB2 : va_P D vcl [(r, .inr (13, rdO (ad 30) n rho0 .null))] H2 := by rw [← ht]; exact hB
  have ho2 : ∀ q : Nat, q < s.heap.size → H2[q]? = s.heap[q]? := fun q h => hS2.2.1 q h (Nat.not_le.mpr h)
  have hz02 : s.heap.size ≤ H2.size := hS2.1
  have P2 : cP D (cReg G ad Kd U zz s.heap.size) G ad s.heap Kd U T zz F Ar H2 locs2 := P.keep (locs := []) (locs1 := locs2) hz02 ho2 hAg hS2.2.2
  have hRd : va_P D vcl (rdW r (ad 30) (G 1) 160 (Ar 30) n rho0 .null) H2 := fun k q hq => by
    match k, hq with
    | 0, hq => cases hq; exact hB2 0 _ rfl
    | 1, hq => cases hq; exact P2.1 30 _ h30a
  have hsub : ∀ q, rA r (ad 30) H2.size q → cReg G ad Kd U zz s.heap.size q := fun q h => h.elim (fun z => Or.inr (by rw [z]; omega)) (fun z => z.elim (fun z => by rw [z]; exact P.2.1.2 30 (by rw [h30a]; exact fun z => by cases z)) (fun z => Or.inr (Nat.le_trans hz02 z)))
  have hN0 : nP D (fun _ => none) r (ad 30) H2 := fun a x h => by cases h
  -- the call of parts
  have hrun := x_runV (p := p) (l := l) (e := e) (R := { frames := 54, cells := 5 * 160 + 7, slots := 36 * 160 + 50, locals := 1210 }) (s := s) (m := m) (below := below) (meth := meth) (c := c) (H := H2) (locs := locs2) (cells := 0 + 1 + 0) (slots := 0 + 8 + 0) (g := F0 m 35 ls [.ref r, .int (F 28), .ref (ad 28)]) (C := RX2) (As := []) (b := r) (rest := [.int (F 28), .ref (ad 28)]) ⟨hx, hb, hml, hown, hts⟩ (tX2_parts l D r (ad 30) (G 1) 160 (Ar 30) n rho0 (fun _ => none) H2.size hn (by decide) hne (Nat.zero_le _) rfl) (cwV 0 hts (lw_V q244 q245 q246 q73 q247) rfl rfl rfl (by decide +kernel) ⟨Nat.le_of_ble_eq_true rfl, Nat.le_of_ble_eq_true rfl⟩) ⟨ptB_blind, va_recv hK hB2 (ci := 13) (q0 := 0) rfl rfl, fun V hV hW => ⟨rfl, ⟨⟨by rw [hV], ⟨.null, by rw [hV]; exact hRd, Or.inl ⟨rfl, rfl⟩⟩, va_K.moved hW.alike (hK.sub [1] rfl), by rw [hV]; exact ((hKc.kept (fun q h1 h2 => P2.2.2.1.2.1 q h1 h2)).narrow hsub).warm hW⟩, by rw [hV]; exact hN0⟩, hAO.moved hW.alike, hN.2.moved hW.alike⟩⟩ rfl rfl hl.1 rfl (lv_room (Nat.le_of_ble_eq_true rfl)) dX0_text_35 ⟨by show 0 + 1 + 0 + (5 * n + 6) ≤ 5 * 160 + 7; omega, by show 0 + 8 + 0 + (36 * n + 42) ≤ 36 * 160 + 50; omega⟩
  -- what all of the world's cells say behind it
  have hback : ∀ (st t : State), st.heap = H2 → va_F (rA r (ad 30) H2.size) st t → va_P D vcl [(ad 30, .inl (G 1, 160, .inl (Ar 30)))] t.heap → H2.size ≤ t.heap.size ∧ (∀ q : Nat, q < s.heap.size → t.heap[q]? = s.heap[q]?) := by
    intro st t h0 hF hT
    have f1 := hF.1
    have f2 := hF.2
    rw [h0] at f1 f2
    refine ⟨f1, fun q hq => ?_⟩
    by_cases e : q = ad 30
    · have a1 := hT 0 _ rfl
      have a2 := P.1 30 _ h30a
      have a1 : t.heap[ad 30]? = some (vp_cell _ _) := a1
      have a2 : s.heap[ad 30]? = some (vp_cell _ _) := a2
      rw [e, a1, a2]
    · rw [f2 q (by omega) (fun z => z.elim (fun z => by have z : q = r := z; omega) (fun z => z.elim e (fun z => by have z : H2.size ≤ q := z; omega))), ho2 q hq]
  have hloc : ∀ L : List Loc, (∀ q ∈ L, rA r (ad 30) H2.size q.base) → ∀ q ∈ locs2 ++ L, cReg G ad Kd U zz s.heap.size q.base := fun L hL q hq => (List.mem_append.mp hq).elim (fun h => hAg _ (hS2.2.2 q h)) (fun h => hsub _ (hL q h))
  refine x_goA hrun (fun v st t L h0 hWt hL hq => ?_) (fun a st t L h0 hWt hL hq => ?_)
  · obtain ⟨hF, hq⟩ := hq
    rcases hq with ⟨c0, c1, ar, a0, a1, cA, N1, e1, e2, e3, e4, e5, e6, e7, e8, e9, e10, e11⟩ | ⟨pl, a, e1, e2, -⟩
    · cases e2
      obtain ⟨f1, f2⟩ := hback st t h0 hF e11
      have hw := hw.2 c0 c1 e1
      have P3 : cP D (cReg G ad Kd U zz s.heap.size) G ad s.heap Kd U T zz F Ar t.heap (locs2 ++ L) := P.keepL (by omega) f2 (hloc L hL)
      have ecA : G 6 = cA := by
        obtain ⟨_, _, _, _, _, h9⟩ := (hK.2 6 _ rfl).2
        have h8 : t.vm.findClass ("[" ++ (FieldType.object "GateRoad$Node").toString) = some (G 6) := by rw [hWt.alike.findClass]; exact h9
        exact Option.some.inj (h8.symm.trans e4)
      subst ecA
      have hdom : ∀ q, N1 q ≠ none → s.heap.size ≤ q := fun q h => Nat.le_trans hz02 (e8.2 q rfl h)
      have harr := arr2_eq e5
      have harr : va_at D vcl (ar, .inl (G 6, 2, .inr (.inr (.inr (.inr (fun i => if i = 0 then some (ad (200 + a0)) else some (ad (200 + a1)))))))) t.heap := by rw [hadj, hadj]; exact harr
      obtain ⟨GP, GD⟩ := tx_grow (N1 := N1) P3.1 P3.2.1 hadj hltU hdom e7 (Nat.le_trans hz02 e3) harr hAg
      have htc : tc < 6 := by omega
      have hU0 : ∀ j, U.1 j ≠ none → j < s.heap.size := by
        intro j hj
        cases hc : U.1 j with
        | none => exact absurd hc hj
        | some y =>
          have := hltU (200 + j) y (by rw [cE_node]; exact hc)
          rw [hadj] at this
          exact this
      show W p l e _ s m _ below meth c t.heap (locs2 ++ L) _ _ _ (F0 m 38 ls [.ref ar, .int (F 28), .ref (ad 28)])
      rw [h28]
      -- the row of texts
      obtain ⟨kA, g3a, g3b⟩ := hG3
      obtain ⟨k6, comp6, g6a, g6b, -⟩ := (hK.2 6 _ rfl).2
      have h28a : cE G ad F Ar Kd (uMg U N1 ar (.inl (G 6, 2, .inr (.inr (.inr (.inr (fun i => if i = 0 then some (ad (200 + a0)) else some (ad (200 + a1)))))))), U.2) 28 = some (.inl (G 3, 6, .inr (.inr (.inr (.inr (fun j => (U.2 j).map (fun t => ad (200 + t)))))))) := rfl
      have hcell := GP 28 _ h28a
      have har1 : t.heap[ar]? = some (vp_cell (G 6) _) := harr
      refine W.aast hx hb hcell (fun q h => by cases h) (fun h => by cases h) g3a g3b rfl g6a ⟨nI_pos (by omega), by show _ < (arrV _ _ _).slots.size; rw [arrV_size, nI_clamp (by omega)]; exact htc⟩ har1 (fun q h => by cases h) (show s.vm.classes[(vp_cell (G 6) _ : Cell).cls]? = some k6 from g6a) (va_asg _ _) rfl rfl dX0_text_38 fun H4 e9' z4 oq4 => ?_
      have GP4 := GP.set GD h28a (x := .inl (G 3, 6, .inr (.inr (.inr (.inr (va_up (fun j => (U.2 j).map (fun t => ad (200 + t))) tc (some ar))))))) (by
        show H4[ad 28]? = some (vp_cell _ _)
        rw [e9']
        rw [vp_cell_q, vp_cell_q, arrV_store, nI_clamp (by omega)]
        congr 2
        funext q
        by_cases hq : q = tc
        · subst hq
          simp [updV, va_up, va_rf]
        · simp [updV, va_up, hq]) oq4
      have GD4 := GD.set (x := .inl (G 3, 6, .inr (.inr (.inr (.inr (va_up (fun j => (U.2 j).map (fun t => ad (200 + t))) tc (some ar))))))) h28a
      rw [cE_tx hadj] at GP4 GD4
      have hS4 : va_S (cReg G ad Kd U zz s.heap.size) s.heap H4 (locs2 ++ L ++ [⟨ad 28, (nI tc).toNatClampNeg⟩]) := P3.2.2.1.put z4 oq4 (P.2.1.2 28 (by exact fun z => by cases z))
      have hTx : ∀ F1 : tF, (F1 28).toInt ≤ (F 28).toInt + 1 → cTx G ad (uMg U N1 ar (.inl (G 6, 2, .inr (.inr (.inr (.inr (fun i => if i = 0 then some (ad (200 + a0)) else some (ad (200 + a1)))))))), va_up U.2 tc (some ar)) (tset T tc c0 c1) F1 := fun F1 hF1 => cTx_new hadj P.2.2.2.2.1 h28 htc hdom hU0 (Nat.le_trans hz02 e3) e6 hn e9 e10 hF1
      have P4 : cP D (cReg G ad Kd U zz s.heap.size) G ad s.heap Kd (uMg U N1 ar (.inl (G 6, 2, .inr (.inr (.inr (.inr (fun i => if i = 0 then some (ad (200 + a0)) else some (ad (200 + a1)))))))), va_up U.2 tc (some ar)) (tset T tc c0 c1) zz F Ar H4 (locs2 ++ L ++ [⟨ad 28, (nI tc).toNatClampNeg⟩]) := ⟨GP4, GD4, hS4, P.2.2.2.1, hTx F (by omega), P.2.2.2.2.2⟩
      generalize locs2 ++ L ++ [⟨ad 28, (nI tc).toNatClampNeg⟩] = locs4 at P4 ⊢
      generalize (uMg U N1 ar (.inl (G 6, 2, .inr (.inr (.inr (.inr (fun i => if i = 0 then some (ad (200 + a0)) else some (ad (200 + a1)))))))), va_up U.2 tc (some ar)) = U4 at P4 hTx
      show W p l e _ s m _ below meth c H4 locs4 _ _ _ (F0 m 39 ls [])
      refine lv_aload_n hx hb dX0_text_39 rfl (lv_at hl 0 rfl) ?_
      refine lv_iconst (v := 0) hx hb dX0_text_40 (by decide) ?_
      refine cp_taped X P4 dX0_text_41 (fun F5 H5 locs5 eF5 P5 _ => ?_)
      have e528 : F5 28 = nI tc := by rw [eF5]; simp [upd]; exact h28
      refine lv_goto (tgt := 71) hx hb dX0_text_44 (by decide) ?_
      refine lv_aload_n hx hb dX0_text_71 rfl (lv_at hl 0 rfl) ?_
      refine lv_dup hx hb dX0_text_72 rfl ?_
      refine cg_textCount X P5 dX0_text_73 ?_
      refine lv_iconst (v := 1) hx hb dX0_text_76 (by decide) ?_
      refine lv_iadd hx hb dX0_text_77 ?_
      rw [e528, nI_1]
      refine gw_put hx hb hts in_X0 tyX0 tyX0_ok nmX0 hown hK P5.1 P5.2.1 P5.2.2.1 (q0 := 0) (fs := cFs ad F5) (ci := 1) rfl rfl 28 (by decide) (hts _ q677) (fun _ h => h) rfl (ty := .int) (by decide +kernel) rfl rfl (by simp [cFs]) dX0_text_78 (fun H6 locs6 hP6 hD6 hS6 hz6 => ?_)
      rw [cE_put0 rfl (by decide)] at hP6 hD6
      have e28' : upd F5 28 (nI (tc + 1)) 28 = nI (tc + 1) := by simp [upd]
      have e32' : upd F5 28 (nI (tc + 1)) 32 = F5 32 := by simp [upd]
      have P6 : cP D (cReg G ad Kd U zz s.heap.size) G ad s.heap Kd U4 (tset T tc c0 c1) zz (upd F5 28 (nI (tc + 1))) Ar H6 locs6 := ⟨hP6, hD6, hS6, by unfold cWf; rw [e32']; exact P5.2.2.2.1, hTx _ (by rw [e28', h28, nI_toInt (by omega), nI_toInt (by omega)]; omega), by rw [e32']; exact P5.2.2.2.2.2⟩
      refine lv_aload_n hx hb dX0_text_81 rfl (lv_at hl 0 rfl) ?_
      refine cg_textCount X P6 dX0_text_82 ?_
      refine lv_iconst (v := 1) hx hb dX0_text_85 (by decide) ?_
      refine lv_isub hx hb dX0_text_86 ?_
      rw [e28', nI_pred]
      refine W.widen (k := 5 * 160 + 7) (n := 36 * 160 + 50) (by show 0 + 1 + 0 + (5 * n + 6) ≤ _; omega) (by show 0 + 8 + 0 + (36 * n + 42) ≤ _; omega) ?_
      rw [eF5] at P6
      exact W.iret hx hb hr (fun t ht hW => ⟨⟨_, (U4, tset T tc c0 c1, upd (upd F 30 0) 28 (nI (tc + 1))), rfl, hw, by show gw_P _ _ _ _ t.heap; rw [ht]; exact P6.1, P6.2.1, P6.2.2.2⟩, P6.2.2.1.F ht⟩) P6.2.2.1.2.2 dX0_text_87 hlk
    · cases e2
  · obtain ⟨hF, hq⟩ := hq
    rcases hq with ⟨c0, c1, ar, a0, a1, cA, N1, e1, e2, -⟩ | ⟨pl, a', e1, e2, e3, e4, e5, e6⟩
    · cases e2
    · cases e2
      have hw := hw.1 pl e1
      obtain ⟨f1, f2⟩ := hback st t h0 hF e6
      have P3 : cP D (cReg G ad Kd U zz s.heap.size) G ad s.heap Kd U T zz F Ar t.heap (locs2 ++ L) := P.keepL (by omega) f2 (hloc L hL)
      obtain ⟨cell, g1, g2, g3⟩ := va_recv hK e5 (ci := 16) (q0 := 0) rfl rfl
      obtain ⟨hfc, kB, hkB, -⟩ := (hK.1 16 _ rfl).2
      have e9 : cell.cls = _ := Option.some.inj (g3.symm.trans hfc)
      refine x_caught hown (hts _ q1200) hh0 (hp := 47) (ct := 338) rfl (by decide) g1 (fun z h => by rw [h] at g2; cases g2) (ks := kB) (by rw [e9]; exact hkB) g3 (by rw [e9]; exact va_assign (hK.1 16 _ rfl).2) ?_
      refine lv_astore_n (lv' := [(1, .ref a), (0, .ref (ad 0))]) hx hb dX0_text_47 rfl hl (by decide) rfl (fun ls hl => ?_)
      refine lv_bipush (v := -100) hx hb dX0_text_48 (by decide) ?_
      refine lv_aload_n hx hb dX0_text_50 rfl (lv_at hl 0 rfl) ?_
      refine va_get hx hb hts in_X3 hown hK e5 0 rfl rfl 6 (by decide) (hts _ q486) (fun _ h => h) rfl dX0_text_51 ?_
      refine lv_isub hx hb dX0_text_54 ?_
      refine lv_istore_n (lv' := [(2, .int (-100 - nI pl)), (1, .ref a), (0, .ref (ad 0))]) hx hb dX0_text_55 rfl hl (by decide) rfl (fun ls hl => ?_)
      refine lv_aload_n hx hb dX0_text_56 rfl (lv_at hl 2 rfl) ?_
      refine lv_iconst (v := 0) hx hb dX0_text_57 (by decide) ?_
      refine cp_taped X P3 dX0_text_58 (fun F5 H5 locs5 eF5 P5 _ => ?_)
      refine lv_iload_n hx hb dX0_text_61 rfl (lv_at hl 0 rfl) ?_
      refine W.widen (k := 5 * 160 + 7) (n := 36 * 160 + 50) (by show 0 + 1 + 0 + (5 * n + 6) ≤ _; omega) (by show 0 + 8 + 0 + (36 * n + 42) ≤ _; omega) ?_
      rw [eF5] at P5
      exact W.iret hx hb hr (fun t ht hW => ⟨⟨_, (U, T, upd F 30 0), rfl, hw, by show gw_P _ _ _ _ t.heap; rw [ht]; exact P5.1, P5.2.1, P5.2.2.2⟩, P5.2.2.1.F ht⟩) P5.2.2.1.2.2 dX0_text_62 hlk
