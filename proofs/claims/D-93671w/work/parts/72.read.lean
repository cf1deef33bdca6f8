/-! ===== read: the first text, a constant ===== -/
set_option maxRecDepth 100000
def fxB : List Int32 := [99, 111, 115, 116, 32, 119, 97, 105, 116, 32, 42, 32, 50, 32, 43, 32, 101, 97, 114, 108, 121, 32, 43, 32, 108, 97, 116, 101, 32, 42, 32, 51, 32, 43, 32, 116, 111, 108, 108, 32, 59, 32, 108, 111, 115, 116, 32, 119, 97, 105, 116, 32, 59]
def fxT : Nat → Int32 := fun j => fxB.getD j 0
def fx0 : List Int32 := [0, 100002, 18, 1, 16, 2, 100003, 18, 16, 5, 16]
def fx1 : List Int32 := [0]
theorem fx_parts : sParts fxT 53 rho0 = .inr (fx0, fx1) := by decide +kernel
theorem fx_ch : ∀ j, j < 53 → (chV (fxB.getD j 0)).toInt8.toInt32 = fxB.getD j 0 := by decide +kernel
theorem fx_nr : ∀ j, j < 53 → narrow .char (.int (chV (fxB.getD j 0))) = .int (chV (fxB.getD j 0)) := by
  intro j hj
  have h : ∀ j, j < 53 → ((chV (fxB.getD j 0)).toUInt32 % 65536).toInt32 = chV (fxB.getD j 0) := by decide +kernel
  show Value.int _ = Value.int _
  congr 1
  exact h j hj
theorem fx_len : fxB.length = 53 := by decide
theorem va_K.sameB {D : va_G} {cl : List vw_C} {cA cA2 : ClassId} {s : State} (hK : va_K D cl ([(cA, .byte)] ++ [(cA2, .byte)]) s) : cA2 = cA := by
  have h9 : s.vm.findClass ("[" ++ FieldType.byte.toString) = some cA := (hK.2 0 _ rfl).2
  have h8 : s.vm.findClass ("[" ++ FieldType.byte.toString) = some cA2 := (hK.2 1 _ rfl).2
  exact Option.some.inj (h8.symm.trans h9)
def fxP (D : va_G) (cB sz q : Nat) (V : State) : Prop := V.heap.size = sz ∧ va_K D vcl [(cB, .byte)] V ∧ rK (fun a => sz ≤ a) V V.heap ∧ zF (fun a => sz ≤ a) V V.heap ∧ sS q fxB (fun a => sz ≤ a) V V.heap ∧ va_AO "GateRoad$Node" V ∧ nFw V
theorem fx_blind {as : List Value} {D : va_G} {cB sz q : Nat} : FrameBlind (va_Pc as (fxP D cB sz q)) := fun a V g mk h => by
  obtain ⟨h0, h1, h2, h3, h4, h5, h6, h7⟩ := h
  exact ⟨h0, h1, va_K.moved (u := V) (U := V.calling g mk a) (Vm.Alike.refl V.vm) h2, h3.same rfl, va_Zq.moved (Vm.Alike.refl V.vm) h4, h5.moved (Vm.Alike.refl V.vm), h6.moved (Vm.Alike.refl V.vm), h7.moved (Vm.Alike.refl V.vm)⟩
def fxQ (D : va_G) (sz : Nat) : Array Value → State → Outcome → State → Prop := va_Qr (fun _ : Nat × Nat × ClassId × (Nat → Option va_E) => True) (fun u ar t => sz ≤ ar ∧ t.vm.findClass ("[" ++ (FieldType.object "GateRoad$Node").toString) = some u.2.2.1 ∧ va_P D vcl [(ar, .inl (u.2.2.1, 2, .inr (.inr (.inr (.inr (va_up (va_up (fun _ => none) 0 (some u.1)) 1 (some u.2.1)))))))] t.heap ∧ u.2.2.2 ar = none ∧ (∀ a x, u.2.2.2 a = some x → va_at D vcl (a, x) t.heap ∧ sz ≤ a) ∧ cTr u.2.2.2 idA 53 u.1 fx0 ∧ cTr u.2.2.2 idA 53 u.2.1 fx1) (fun q => sz ≤ q)
abbrev fxR : Room := { frames := 54, cells := 280, slots := 2060, locals := 1220 }
set_option maxHeartbeats 4000000 in
theorem tX0_read (l : Launch) (D : va_G) (cB sz q : Nat) : Met l yX0_read (ws_ yX0_read cX0_read 3 (some (.array (.object "GateRoad$Node")))) fxR (va_Pc [.ref q] (fxP D cB sz q)) (fxQ D sz) 280 2060 (fun q => sz ≤ q) := by
  refine g_entry (by decide) (Nat.le_of_ble_eq_true rfl) ?_
  intro p e s m args below meth c ls hx hb hml hown hts hlk hr hB hl _
  obtain ⟨hsz, hK, hKc, hzF, hs, hAO, hFw⟩ := hB
  subst hsz
  have hown : s.vm.findClass RX0 = some m.cls := hown
  have hl : lv_has ls 3 [(0, .ref q)] := hl
  have hA : ∀ a, s.heap.size ≤ a → s.heap.size ≤ a := fun _ h => h
  have hS : va_S (fun a => s.heap.size ≤ a) s.heap s.heap [] := va_S.rf
  have hPz : va_P D vcl [] s.heap := fun k q h => by cases h
  have hDz : va_D (fun a => s.heap.size ≤ a) [] := ⟨fun i j p q h => by simp at h, fun k q h => by simp at h⟩
  refine lv_aload_n hx hb dX0_read_0 rfl (lv_at hl 0 rfl) ?_
  refine r_call (W.runV (C := RJ3) (As := []) (rest := []) ⟨hx, hb, hml, hown, hts⟩ (tJ3_length l q fxB) (cwV 0 hts (lw_V q165 q166 q167 q69 q168) rfl rfl rfl (by decide +kernel) ⟨Nat.le_of_ble_eq_true rfl, Nat.le_of_ble_eq_true rfl⟩) ⟨sB_blind, hs.recv, fun V hV hW => ⟨rfl, by unfold sB; rw [hV]; exact ⟨(va_Z.moved hW.alike hKc.2.1).narrow (fun _ h => h.elim), (hs.moved hW.alike).narrow (fun _ h => h.elim)⟩⟩⟩ rfl rfl hl.1 rfl (lv_room (Nat.le_of_ble_eq_true rfl)) dX0_read_1 ⟨Nat.zero_le _, Nat.zero_le _⟩) ?_
  rw [fx_len]
  refine va_newa (atype := .byte) (N' := 53) (a0 := (53, .inl (fun _ => 0))) hx hb (hts _ q160) rfl hK hPz hDz hS hA (fun cA => by rw [vp_cell_i]; rfl) (by decide) (by decide) (by decide) (Nat.le_of_ble_eq_true rfl) (Nat.le_of_ble_eq_true rfl) dX0_read_4 (fun tx cA H hK2 hP hD hS => ?_)
  have ecA := hK2.sameB
  subst ecA
  have htx : s.heap.size ≤ tx := hD.2 0 _ rfl
  refine lv_astore_n (lv' := [(1, .ref tx), (0, .ref q)]) hx hb dX0_read_6 rfl hl (by decide) rfl (fun ls hl => ?_)
  refine lv_iconst (v := 0) hx hb dX0_read_7 (by decide) ?_
  refine lv_istore_n (lv' := [(2, .int (nI 0)), (1, .ref tx), (0, .ref q)]) hx hb dX0_read_8 rfl hl (by decide) rfl (fun ls hl => ?_)
  have loop : ∀ (d k : Nat) (H : Heap) (locs : List Loc) (ls : Array Slot), d + k = 53 → va_P D vcl [(tx, .inl (cA, 53, .inl (fun j => if j < k then fxB.getD j 0 else 0)))] H → va_D (fun a => s.heap.size ≤ a) [(tx, .inl (cA, 53, .inl (fun j => if j < k then fxB.getD j 0 else 0)))] → va_S (fun a => s.heap.size ≤ a) s.heap H locs → lv_has ls 3 [(2, .int (nI k)), (1, .ref tx), (0, .ref q)] → W p l e fxR s m args below meth c H locs 1 53 (MQ below (fxQ D s.heap.size) args s 280 2060 (fun q => s.heap.size ≤ q)) (F0 m 9 ls []) := by
    intro d
    induction d with
    | zero =>
      intro k H locs ls hd hP hD hS hl
      have hk : k = 53 := by omega
      subst hk
      refine lv_iload_n hx hb dX0_read_9 rfl (lv_at hl 0 rfl) ?_
      refine lv_aload_n hx hb dX0_read_10 rfl (lv_at hl 1 rfl) ?_
      refine va_alen hx hb hK hP 0 0 rfl rfl (v := 53) (show Int32.ofNat 53 = 53 from by decide) dX0_read_11 ?_
      refine lv_icmp_ge (tgt := 30) hx hb dX0_read_12 (by decide) (fun _ => ?_) (fun h => absurd (by decide : (53 : Int32) ≤ nI 53) h)
      have eT : (fun j => if j < 53 then fxB.getD j 0 else 0) = fxT := by
        funext j
        unfold fxT
        by_cases h : j < 53
        · rw [if_pos h]
        · rw [if_neg h, List.getD_eq_getElem?_getD, List.getElem?_eq_none (by rw [fx_len]; omega)]
          rfl
      rw [eT] at hP
      have htl : tx < H.size := (hP 0 _ rfl).lt
      have hz0 : s.heap.size ≤ H.size := hS.1
      refine x_new (ci := 13) (fs := [.null, .int 0, .int 0, .int 0, .int 0, .null, .int 0, .int 0]) (C := RX2) (T := TX2) (N := 8) hx hb hts in_X2 tyX2 tyX2_ok hown (hts _ q213) (hts _ q214) (hts _ q73) hK rfl (fun j hj => by rcases (show j = 0 ∨ j = 1 ∨ j = 2 ∨ j = 3 ∨ j = 4 ∨ j = 5 ∨ j = 6 ∨ j = 7 by omega) with rfl | rfl | rfl | rfl | rfl | rfl | rfl | rfl <;> rfl) (Nat.le_of_ble_eq_true rfl) (Nat.le_of_ble_eq_true rfl) dX0_read_30 (fun H1 hU1 hz1 ho1 => ?_)
      obtain ⟨r, hrr⟩ : ∃ r, r = H.size := ⟨_, rfl⟩
      rw [← hrr] at hU1
      refine W.eq (g2 := F0 m 33 ls [.ref r]) (by rw [hrr]) ?_
      have hP1 : va_P D vcl [(tx, .inl (cA, 53, .inl fxT))] H1 := fun k y hy => by
        match k, hy with
        | 0, hy => cases hy; exact (hP 0 _ rfl).kept (ho1 _ htl)
      have hS1 : va_S (fun a => s.heap.size ≤ a) s.heap H1 locs := ⟨by omega, fun a h1 h2 => (ho1 a (by omega)).trans (hS.2.1 a h1 h2), hS.2.2⟩
      have hne : r ≠ tx := by omega
      refine lv_dup hx hb dX0_read_33 rfl ?_
      refine lv_aload_n hx hb dX0_read_34 rfl (lv_at hl 1 rfl) ?_
      refine lv_aload_n hx hb dX0_read_35 rfl (lv_at hl 1 rfl) ?_
      refine va_alen hx hb hK hP1 0 0 rfl rfl (v := nI 53) rfl dX0_read_36 ?_
      refine va_callv (A0 := fun a => s.heap.size ≤ a) (va_runI (As := [.ref tx, .int (nI 53)]) (rest := [.ref r]) ⟨hx, hb, hml, hown, hts⟩ (tX2_init l D r tx 53) (cwI 2 hts (lw_meth q217) rfl rfl rfl (hts _ q73) (hts _ q215) (hts _ q216) rfl (by decide +kernel) ⟨Nat.le_of_ble_eq_true rfl, Nat.le_of_ble_eq_true rfl⟩) ⟨ni_blind, fun V hV hW => ⟨rfl, by rw [hV]; exact hU1, va_K.moved hW.alike (hK.sub [] rfl)⟩⟩ rfl rfl hl.1 rfl (lv_room (Nat.le_of_ble_eq_true rfl)) dX0_read_37 ⟨Nat.le_of_ble_eq_true rfl, Nat.le_of_ble_eq_true rfl⟩) hS1 (fun a _ h => by rw [show a = r from h]; omega) (fun a h => by rw [show a = r from h]; omega) (fun u t H2 locs2 ht hvm hp hB hz2 hkp hS2 => ?_)
      have hB2 : va_P D vcl [(r, .inr (13, rdO tx 53 rho0 .null))] H2 := by rw [← ht]; exact hB
      have hRd : va_P D vcl (rdW r tx cA 53 fxT 53 rho0 .null) H2 := fun k y hy => by
        match k, hy with
        | 0, hy => cases hy; exact hB2 0 _ rfl
        | 1, hy => cases hy; exact (hP1 0 _ rfl).kept (hkp _ (by omega) (fun z => hne z.symm))
      have hz02 : s.heap.size ≤ H2.size := hS2.1
      have hsub : ∀ a, rA r tx H2.size a → s.heap.size ≤ a := fun a h => h.elim (fun z => by rw [z]; omega) (fun z => z.elim (fun z => by rw [z]; exact htx) (fun z => Nat.le_trans hz02 z))
      have hN0 : nP D (fun _ => none) r tx H2 := fun a x h => by cases h
      have hrun := x_runV (p := p) (l := l) (e := e) (R := fxR) (s := s) (m := m) (below := below) (meth := meth) (c := c) (H := H2) (locs := locs2) (cells := 1 + 1 + 0) (slots := 53 + 8 + 0) (g := F0 m 40 ls [.ref r]) (C := RX2) (As := []) (b := r) (rest := []) ⟨hx, hb, hml, hown, hts⟩ (tX2_parts l D r tx cA 53 fxT 53 rho0 (fun _ => none) H2.size (Nat.le_refl _) (by decide) hne (Nat.zero_le _) rfl) (cwV 0 hts (lw_V q244 q245 q246 q73 q247) rfl rfl rfl (by decide +kernel) ⟨Nat.le_of_ble_eq_true rfl, Nat.le_of_ble_eq_true rfl⟩) ⟨ptB_blind, va_recv hK hB2 (ci := 13) (q0 := 0) rfl rfl, fun V hV hW => ⟨rfl, ⟨⟨by rw [hV], ⟨.null, by rw [hV]; exact hRd, Or.inl ⟨rfl, rfl⟩⟩, va_K.moved hW.alike hK, by rw [hV]; exact ((hKc.kept (fun a h1 h2 => hS2.2.1 a h1 h2)).narrow hsub).warm hW⟩, by rw [hV]; exact hN0⟩, hAO.moved hW.alike, hFw.moved hW.alike⟩⟩ rfl rfl hl.1 rfl (lv_room (Nat.le_of_ble_eq_true rfl)) dX0_read_40 ⟨Nat.le_of_ble_eq_true rfl, Nat.le_of_ble_eq_true rfl⟩
      refine x_goA hrun (fun v st t L h0 hWt hL hq => ?_) (fun a st t L h0 hWt hL hq => ?_)
      · obtain ⟨hF, hq⟩ := hq
        rcases hq with ⟨c0, c1, ar, a0, a1, cN, N1, e1, e2, e3, e4, e5, e6, e7, e8, e9, e10, e11⟩ | ⟨pl, a, e1, e2, -⟩
        · cases e2
          rw [fx_parts] at e1
          cases e1
          have f1 := hF.1
          have f2 := hF.2
          rw [h0] at f1 f2
          refine W.widen (k := 280) (n := 2060) (Nat.le_of_ble_eq_true rfl) (Nat.le_of_ble_eq_true rfl) ?_
          have hS3 : va_S (fun a => s.heap.size ≤ a) s.heap t.heap (locs2 ++ L) := ⟨Nat.le_trans hz02 f1, fun a h1 h2 => (f2 a (Nat.lt_of_lt_of_le h1 hz02) (fun z => h2 (hsub a z))).trans (hS2.2.1 a h1 h2), fun z hz => (List.mem_append.mp hz).elim (fun h => hS2.2.2 z h) (fun h => hsub _ (hL z h))⟩
          refine W.aret hx hb hr (Or.inr ⟨_, rfl⟩) (Or.inr ⟨ar, rfl⟩) (fun t2 ht2 hW => ⟨⟨(a0, a1, cN, N1), ar, rfl, trivial, Nat.le_trans hz02 e3, ?_, by rw [ht2]; exact e5, e6, fun a x hx9 => ⟨by rw [ht2]; exact (e7 a x hx9).1, Nat.le_trans hz02 (e8.2 a rfl (by rw [show N1 a = some x from hx9]; exact fun z => by cases z))⟩, e9, e10⟩, hS3.F ht2⟩) hS3.2.2 dX0_read_43 hlk
          show t2.vm.findClass _ = some cN
          rw [hW.alike.findClass, ← hWt.alike.findClass]
          exact e4
        · cases e2
      · obtain ⟨hF, hq⟩ := hq
        rcases hq with ⟨c0, c1, ar, a0, a1, cN, N1, e1, e2, -⟩ | ⟨pl, a', e1, e2, -⟩
        · cases e2
        · rw [fx_parts] at e1
          cases e1
    | succ d ih =>
      intro k H locs ls hd hP hD hS hl
      have hk : k < 53 := by omega
      refine lv_iload_n hx hb dX0_read_9 rfl (lv_at hl 0 rfl) ?_
      refine lv_aload_n hx hb dX0_read_10 rfl (lv_at hl 1 rfl) ?_
      refine va_alen hx hb hK hP 0 0 rfl rfl (v := nI 53) rfl dX0_read_11 ?_
      refine lv_icmp_ge (tgt := 30) hx hb dX0_read_12 (by decide) (fun h => absurd h (nI_ge hk (by decide))) (fun _ => ?_)
      refine lv_aload_n hx hb dX0_read_15 rfl (lv_at hl 1 rfl) ?_
      refine lv_iload_n hx hb dX0_read_16 rfl (lv_at hl 0 rfl) ?_
      refine lv_aload_n hx hb dX0_read_17 rfl (lv_at hl 2 rfl) ?_
      refine lv_iload_n hx hb dX0_read_18 rfl (lv_at hl 0 rfl) ?_
      have hsH : sS q fxB (fun a => s.heap.size ≤ a) s H := hs.kept hS.2.1
      refine r_call (W.runV (C := RJ3) (As := [.int (nI k)]) (rest := [.int (nI k), .ref tx]) ⟨hx, hb, hml, hown, hts⟩ (tJ3_charAt l q fxB k (by rw [fx_len]; decide) (by rw [fx_len]; exact hk) (fx_nr k hk)) (cwV 1 hts (lw_V q175 q176 q177 q69 q178) rfl rfl rfl (by decide +kernel) ⟨Nat.le_of_ble_eq_true rfl, Nat.le_of_ble_eq_true rfl⟩) ⟨sBf_blind, hsH.recv, fun V hV hW => ⟨rfl, by unfold sBf sB; rw [hV]; exact ⟨(va_Zq.moved hW.alike (va_Zq.kept hzF hS.2.1)).narrow (fun _ h => h.elim), (va_Z.moved hW.alike (va_Z.kept hKc.2.1 hS.2.1)).narrow (fun _ h => h.elim), (hsH.moved hW.alike).narrow (fun _ h => h.elim)⟩⟩⟩ rfl rfl hl.1 rfl (lv_room (Nat.le_of_ble_eq_true rfl)) dX0_read_19 ⟨Nat.le_of_ble_eq_true rfl, Nat.le_of_ble_eq_true rfl⟩) ?_
      refine lv_i2b hx hb dX0_read_22 rfl ?_
      rw [fx_ch k hk]
      refine va_bast hx hb hK hP hD hS 0 0 rfl rfl (nI_in hk (by decide)) dX0_read_23 (fun H1 locs1 hP hD hS => ?_)
      refine lv_iinc (v := nI (k + 1)) (lv' := [(2, .int (nI (k + 1))), (1, .ref tx), (0, .ref q)]) hx hb dX0_read_24 hl (k := 0) rfl (nI_1 k) (by decide) rfl (fun ls hl => ?_)
      refine lv_goto (tgt := 9) hx hb dX0_read_27 (by decide) ?_
      have eA : upd (fun j => if j < k then fxB.getD j 0 else 0) (nI k).toNatClampNeg (vp_nar .byte (fxB.getD k 0)) = (fun j => if j < k + 1 then fxB.getD j 0 else 0) := by
        rw [nI_clamp (by omega)]
        have en : vp_nar .byte (fxB.getD k 0) = fxB.getD k 0 := by
          have hh : ∀ j, j < 53 → vp_nar .byte (fxB.getD j 0) = fxB.getD j 0 := by decide +kernel
          exact hh k hk
        rw [en]
        funext j
        by_cases hj : j = k
        · subst hj
          simp [upd]
        · by_cases hlt : j < k
          · have : j < k + 1 := by omega
            simp [upd, hj, hlt, this]
          · have : ¬ j < k + 1 := by omega
            simp [upd, hj, hlt, this]
      rw [eA] at hP hD
      exact ih (k + 1) H1 locs1 ls (by omega) hP hD hS hl
  have e0 : (fun j => if j < 0 then fxB.getD j 0 else 0) = (fun _ : Nat => (0 : Int32)) := by
    funext j
    simp
  exact loop 53 0 H [] ls rfl (by rw [e0]; exact hP) (by rw [e0]; exact hD) hS hl
