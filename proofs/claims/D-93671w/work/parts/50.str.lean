/-! ===== Strings (Latin-1), read only; by gen/str1.py ===== -/
set_option maxRecDepth 100000
abbrev nA : Nat → Prop := fun _ => False
def zC (A : Nat → Prop) (U : State) (H : Heap) : Prop := va_Z "java/lang/String" "COMPACT_STRINGS" "Z" (.int 1) A U H
abbrev sT (t : Nat) (b : List Int32) (A : Nat → Prop) (U : State) (H : Heap) : Prop := va_T .byte t b.length (fun j => .int (b.getD j 0)) A U H
def sS (t : Nat) (b : List Int32) (A : Nat → Prop) (U : State) (H : Heap) : Prop := va_O "java/lang/String" t A U H ∧ va_OF "java/lang/String" "coder" "B" (.int 0) t A U H ∧ ∃ tv, va_OF "java/lang/String" "value" "[B" (.ref tv) t A U H ∧ sT tv b A U H
theorem sS.moved {t : Nat} {b : List Int32} {A : Nat → Prop} {u U : State} {H : Heap} (hvm : u.vm.Alike U.vm) (h : sS t b A u H) : sS t b A U H := by
  obtain ⟨h1, h2, tv, h3, h4⟩ := h
  exact ⟨h1.moved hvm, h2.moved hvm, tv, h3.moved hvm, h4.moved hvm⟩
theorem sS.kept {t : Nat} {b : List Int32} {A : Nat → Prop} {U : State} {H H1 : Heap} (h : sS t b A U H) (hq : ∀ a : Nat, a < H.size → ¬ A a → H1[a]? = H[a]?) : sS t b A U H1 := by
  obtain ⟨h1, h2, tv, h3, h4⟩ := h
  exact ⟨h1.kept hq, h2.kept hq, tv, h3.kept hq, h4.kept hq⟩
theorem sS.narrow {t : Nat} {b : List Int32} {A B : Nat → Prop} {U : State} {H : Heap} (h : sS t b A U H) (hAB : ∀ q, B q → A q) : sS t b B U H := by
  obtain ⟨h1, h2, tv, h3, h4⟩ := h
  exact ⟨h1.narrow hAB, h2.narrow hAB, tv, h3.narrow hAB, h4.narrow hAB⟩
theorem sS.recv {t : Nat} {b : List Int32} {A : Nat → Prop} {U : State} {H : Heap} (h : sS t b A U H) : ∃ cell : Cell, H[t]? = some cell ∧ cell.vm.isStatics = false ∧ U.vm.findClass "java/lang/String" = some cell.cls := by
  obtain ⟨⟨cell, h1, h2, h3, -⟩, -⟩ := h
  exact ⟨cell, h1, h2, h3⟩
def sB (t : Nat) (b : List Int32) (V : State) : Prop := zC nA V V.heap ∧ sS t b nA V V.heap
theorem sB_blind {as : List Value} {t : Nat} {b : List Int32} : FrameBlind (va_Pc as (sB t b)) := fun a V g mk q => ⟨q.1, va_Z.moved (Vm.Alike.refl V.vm) q.2.1, q.2.2.moved (Vm.Alike.refl V.vm)⟩
theorem sB.at {t : Nat} {b : List Int32} {s V : State} (h : sB t b s) (hV : V.heap = s.heap) (hW : s.WarmedH V.vm) : sB t b V := by
  unfold sB
  rw [hV]
  exact ⟨va_Z.moved hW.alike h.1, h.2.moved hW.alike⟩
theorem i_shr0 (x : Int32) : x >>> ((0 : Int32) &&& 31) = x := by
  have : ((0 : Int32) &&& 31) = 0 := by decide
  rw [this]
  exact Int32.shiftRight_zero

set_option maxHeartbeats 1000000 in
theorem tJ3_isLatin1 (l : Launch) (t : Nat) (b : List Int32) : Met l yJ3_isLatin1 (ws_ yJ3_isLatin1 cJ3_isLatin1 1 (some .boolean)) { frames := 0, cells := 0, slots := 0, locals := 0 } (va_Pc [.ref t] (sB t b)) (rQ (some (.int 1))) 0 0 (fun _ => False) := by
  refine g_entry (by decide) (Nat.le_of_ble_eq_true rfl) ?_
  intro p e s m args below meth c ls hx hb hml hown hts hlk hr hB hl _
  have hS : va_S nA s.heap s.heap [] := va_S.rf
  have hown : s.vm.findClass RJ3 = some m.cls := hown
  have hl : lv_has ls 1 [(0, .ref t)] := hl
  refine va_gets hx hb hB.1 hS hown (hts _ q173) (fun _ h9 => h9) dJ3_isLatin1_0 ?_
  refine lv_if_eq (tgt := 17) hx hb dJ3_isLatin1_3 (by decide) (fun h9 => absurd h9 (by decide)) (fun _ => ?_)
  refine lv_aload_n hx hb dJ3_isLatin1_6 rfl (lv_at hl 0 rfl) ?_
  refine vk_getf hx hb hB.2.2.1 hS hown (hts _ q417) (fun _ h9 => h9) dJ3_isLatin1_7 ?_
  refine lv_if_ne (tgt := 17) hx hb dJ3_isLatin1_10 (by decide) (fun h9 => absurd h9 (by decide)) (fun _ => ?_)
  refine lv_iconst (v := 1) hx hb dJ3_isLatin1_13 (by decide) ?_
  refine lv_goto (tgt := 18) hx hb dJ3_isLatin1_14 (by decide) ?_
  exact rq_bool hx hb hlk hr rfl dJ3_isLatin1_18
set_option maxHeartbeats 1000000 in
theorem tJ3_coder (l : Launch) (t : Nat) (b : List Int32) : Met l yJ3_coder (ws_ yJ3_coder cJ3_coder 1 (some .byte)) { frames := 0, cells := 0, slots := 0, locals := 0 } (va_Pc [.ref t] (sB t b)) (rQ (some (.int 0))) 0 0 (fun _ => False) := by
  refine g_entry (by decide) (Nat.le_of_ble_eq_true rfl) ?_
  intro p e s m args below meth c ls hx hb hml hown hts hlk hr hB hl _
  have hS : va_S nA s.heap s.heap [] := va_S.rf
  have hown : s.vm.findClass RJ3 = some m.cls := hown
  have hl : lv_has ls 1 [(0, .ref t)] := hl
  refine va_gets hx hb hB.1 hS hown (hts _ q173) (fun _ h9 => h9) dJ3_coder_0 ?_
  refine lv_if_eq (tgt := 13) hx hb dJ3_coder_3 (by decide) (fun h9 => absurd h9 (by decide)) (fun _ => ?_)
  refine lv_aload_n hx hb dJ3_coder_6 rfl (lv_at hl 0 rfl) ?_
  refine vk_getf hx hb hB.2.2.1 hS hown (hts _ q417) (fun _ h9 => h9) dJ3_coder_7 ?_
  refine lv_goto (tgt := 14) hx hb dJ3_coder_10 (by decide) ?_
  exact rq_bool hx hb hlk hr rfl dJ3_coder_14
set_option maxHeartbeats 1000000 in
theorem tJ3_length (l : Launch) (t : Nat) (b : List Int32) : Met l yJ3_length (ws_ yJ3_length cJ3_length 1 (some .int)) { frames := 1, cells := 0, slots := 0, locals := 20 } (va_Pc [.ref t] (sB t b)) (rQ (some (.int (nI b.length)))) 0 0 (fun _ => False) := by
  refine g_entry (by decide) (Nat.le_of_ble_eq_true rfl) ?_
  intro p e s m args below meth c ls hx hb hml hown hts hlk hr hB hl _
  have hS : va_S nA s.heap s.heap [] := va_S.rf
  have hown : s.vm.findClass RJ3 = some m.cls := hown
  have hl : lv_has ls 1 [(0, .ref t)] := hl
  obtain ⟨ho, hc, tv, hv, hT⟩ := id hB.2
  refine lv_aload_n hx hb dJ3_length_0 rfl (lv_at hl 0 rfl) ?_
  refine vk_getf hx hb hv hS hown (hts _ q416) (fun _ h9 => h9) dJ3_length_1 ?_
  refine va_tlen hx hb hT hS (v := nI b.length) rfl dJ3_length_4 ?_
  refine lv_aload_n hx hb dJ3_length_5 rfl (lv_at hl 0 rfl) ?_
  refine r_call (W.runV (As := []) (rest := [.int (nI b.length)]) ⟨hx, hb, hml, hown, hts⟩ (tJ3_coder l t b) (cwV 0 hts (lw_V q169 q170 q171 q69 q172) rfl rfl rfl (by decide +kernel) ⟨Nat.le_of_ble_eq_true rfl, Nat.le_of_ble_eq_true rfl⟩) ⟨sB_blind, hB.2.recv, fun U hU hW => ⟨rfl, hB.at hU hW⟩⟩ rfl rfl hl.1 rfl (lv_room (Nat.le_of_ble_eq_true rfl)) dJ3_length_6 ⟨Nat.zero_le _, Nat.zero_le _⟩) ?_
  refine lv_ishr hx hb dJ3_length_9 ?_
  rw [i_shr0]
  exact rq_int hx hb hlk hr dJ3_length_10
def sB2 (t1 t2 : Nat) (b1 b2 : List Int32) (V : State) : Prop := sT t1 b1 nA V V.heap ∧ sT t2 b2 nA V V.heap
theorem sB2_blind {as : List Value} {t1 t2 : Nat} {b1 b2 : List Int32} : FrameBlind (va_Pc as (sB2 t1 t2 b1 b2)) := fun a V g mk q => ⟨q.1, q.2.1.moved (Vm.Alike.refl V.vm), q.2.2.moved (Vm.Alike.refl V.vm)⟩
theorem list_eq_of {b1 b2 : List Int32} (hn : b1.length = b2.length) (h : ∀ j, j < b1.length → b1.getD j 0 = b2.getD j 0) : b1 = b2 := by
  apply List.ext_getElem hn
  intro i h1 h2
  have := h i h1
  simpa [List.getD_eq_getElem?_getD, h1, h2] using this
set_option maxHeartbeats 1000000 in
theorem tJ4_equals (l : Launch) (t1 t2 : Nat) (b1 b2 : List Int32) (h1 : b1.length < 2 ^ 31) (h2 : b2.length < 2 ^ 31) : Met l yJ4_equals (ws_ yJ4_equals cJ4_equals 3 (some .boolean)) { frames := 0, cells := 0, slots := 0, locals := 0 } (va_Pc [.ref t1, .ref t2] (sB2 t1 t2 b1 b2)) (rQ (some (.int (if b1 = b2 then 1 else 0)))) 0 0 (fun _ => False) := by
  refine g_entry (by decide) (Nat.le_of_ble_eq_true rfl) ?_
  intro p e s m args below meth c ls hx hb hml hown hts hlk hr hB hl _
  have hS : va_S nA s.heap s.heap [] := va_S.rf
  have hown : s.vm.findClass RJ4 = some m.cls := hown
  have hl : lv_has ls 3 [(0, .ref t1), (1, .ref t2)] := hl
  refine lv_aload_n hx hb dJ4_equals_0 rfl (lv_at hl 0 rfl) ?_
  refine va_tlen hx hb hB.1 hS (v := nI b1.length) rfl dJ4_equals_1 ?_
  refine lv_aload_n hx hb dJ4_equals_2 rfl (lv_at hl 1 rfl) ?_
  refine va_tlen hx hb hB.2 hS (v := nI b2.length) rfl dJ4_equals_3 ?_
  refine lv_icmp_ne (tgt := 34) hx hb dJ4_equals_4 (by decide) (fun c_1 => ?_) (fun c_1 => ?_)
  · have hne : ¬ b1 = b2 := fun z => c_1 (by rw [z])
    rw [if_neg hne]
    refine lv_iconst (v := 0) hx hb dJ4_equals_34 (by decide) ?_
    exact rq_bool hx hb hlk hr rfl dJ4_equals_35
  · have hn : b1.length = b2.length := (nI_eq h1 h2).mp c_1
    refine lv_iconst (v := 0) hx hb dJ4_equals_7 (by decide) ?_
    refine lv_istore_n (lv' := [(2, .int 0), (0, .ref t1), (1, .ref t2)]) hx hb dJ4_equals_8 rfl hl (by decide) rfl (fun ls hl => ?_)
    have go : ∀ (d k : Nat) (ls : Array Slot), k + d = b1.length → (∀ j, j < k → b1.getD j 0 = b2.getD j 0) → lv_has ls 3 [(2, .int (nI k)), (0, .ref t1), (1, .ref t2)] → W p l e { frames := 0, cells := 0, slots := 0, locals := 0 } s m args below meth c s.heap [] 0 0 (MQ below (rQ (some (.int (if b1 = b2 then 1 else 0)))) args s 0 0 (fun _ => False)) (F0 m 9 ls []) := by
      intro d
      induction d with
      | zero =>
        intro k ls hk hj hl
        have hk : k = b1.length := by omega
        have heq : b1 = b2 := list_eq_of hn (by rw [← hk]; exact hj)
        rw [if_pos heq]
        subst hk
        refine lv_iload_n hx hb dJ4_equals_9 rfl (lv_at hl 0 rfl) ?_
        refine lv_aload_n hx hb dJ4_equals_10 rfl (lv_at hl 1 rfl) ?_
        refine va_tlen hx hb hB.1 hS (v := nI b1.length) rfl dJ4_equals_11 ?_
        refine lv_icmp_ge (tgt := 32) hx hb dJ4_equals_12 (by decide) (fun _ => ?_) (fun h9 => absurd (Int32.le_refl _) h9)
        refine lv_iconst (v := 1) hx hb dJ4_equals_32 (by decide) ?_
        exact rq_bool hx hb hlk hr rfl dJ4_equals_33
      | succ d ih =>
        intro k ls hk hj hl
        have hlt : k < b1.length := by omega
        refine lv_iload_n hx hb dJ4_equals_9 rfl (lv_at hl 0 rfl) ?_
        refine lv_aload_n hx hb dJ4_equals_10 rfl (lv_at hl 1 rfl) ?_
        refine va_tlen hx hb hB.1 hS (v := nI b1.length) rfl dJ4_equals_11 ?_
        refine lv_icmp_ge (tgt := 32) hx hb dJ4_equals_12 (by decide) (fun h9 => absurd h9 (nI_ge hlt (by omega))) (fun _ => ?_)
        refine lv_aload_n hx hb dJ4_equals_15 rfl (lv_at hl 1 rfl) ?_
        refine lv_iload_n hx hb dJ4_equals_16 rfl (lv_at hl 0 rfl) ?_
        refine va_tb hx hb hB.1 hS (v := .int (b1.getD k 0)) (nI_in hlt (by omega)) (by rw [nI_clamp (by omega)]) dJ4_equals_17 ?_
        refine lv_aload_n hx hb dJ4_equals_18 rfl (lv_at hl 2 rfl) ?_
        refine lv_iload_n hx hb dJ4_equals_19 rfl (lv_at hl 0 rfl) ?_
        refine va_tb hx hb hB.2 hS (v := .int (b2.getD k 0)) (nI_in (by rw [← hn]; exact hlt) (by omega)) (by rw [nI_clamp (by omega)]) dJ4_equals_20 ?_
        refine lv_icmp_eq (tgt := 26) hx hb dJ4_equals_21 (by decide) (fun c_2 => ?_) (fun c_2 => ?_)
        · refine lv_iinc (v := ((nI k) + 1)) (lv' := [(2, .int ((nI k) + 1)), (0, .ref t1), (1, .ref t2)]) hx hb dJ4_equals_26 hl (k := 0) rfl rfl (by decide) rfl (fun ls hl => ?_)
          refine lv_goto (tgt := 9) hx hb dJ4_equals_29 (by decide) ?_
          exact ih (k + 1) ls (by omega) (fun j hj2 => by
            by_cases e : j = k
            · subst e; exact c_2
            · exact hj j (by omega)) (by rw [← nI_1]; exact hl)
        · have hne : ¬ b1 = b2 := fun z => c_2 (by rw [z])
          rw [if_neg hne]
          refine lv_iconst (v := 0) hx hb dJ4_equals_24 (by decide) ?_
          exact rq_bool hx hb hlk hr rfl dJ4_equals_25
    exact go b1.length 0 ls (by omega) (fun j hj => absurd hj (Nat.not_lt_zero _)) (by rw [nI_0]; exact hl)
def sBq (t1 : Nat) (b1 : List Int32) (o : Option (Nat × List Int32)) (V : State) : Prop := zC nA V V.heap ∧ sS t1 b1 nA V V.heap ∧ ∀ q, o = some q → sS q.1 q.2 nA V V.heap
theorem sBq_blind {as : List Value} {t1 : Nat} {b1 : List Int32} {o : Option (Nat × List Int32)} : FrameBlind (va_Pc as (sBq t1 b1 o)) := fun a V g mk q => ⟨q.1, va_Z.moved (Vm.Alike.refl V.vm) q.2.1, q.2.2.1.moved (Vm.Alike.refl V.vm), fun z h => (q.2.2.2 z h).moved (Vm.Alike.refl V.vm)⟩
theorem sT.inj {t : Nat} {b1 b2 : List Int32} {U : State} {H : Heap} (h1 : b1.length < 2 ^ 31) (h2 : b2.length < 2 ^ 31) (g1 : sT t b1 nA U H) (g2 : sT t b2 nA U H) : b1 = b2 := by
  obtain ⟨c1, p1, -, -, -, p5, p6, -⟩ := g1
  obtain ⟨c2, r1, -, -, -, r5, r6, -⟩ := g2
  cases p1.symm.trans r1
  have hn : b1.length = b2.length := (nI_eq h1 h2).mp (p5.symm.trans r5)
  exact list_eq_of hn (fun j hj => by
    have := (p6 j hj).symm.trans (r6 j (by rw [← hn]; exact hj))
    exact Value.int.inj (Option.some.inj this))
theorem sS.inj {t : Nat} {b1 b2 : List Int32} {U : State} {H : Heap} (h1 : b1.length < 2 ^ 31) (h2 : b2.length < 2 ^ 31) (g1 : sS t b1 nA U H) (g2 : sS t b2 nA U H) : b1 = b2 := by
  obtain ⟨-, -, tv1, ⟨cf, k, i, f, cell, a1, a2, a3, a4, a5, -⟩, e1⟩ := g1
  obtain ⟨-, -, tv2, ⟨cf', k', i', f', cell', b1, b2, b3, b4, b5, -⟩, e2⟩ := g2
  have hh := Option.some.inj (a1.symm.trans b1)
  have hf : f = f' := by
    have := congrArg (fun x => x.2.2.2) hh
    exact this
  subst hf
  cases a3.symm.trans b3
  have := Value.ref.inj (Option.some.inj (a5.symm.trans b5))
  subst this
  exact sT.inj h1 h2 e1 e2
set_option maxHeartbeats 1000000 in
theorem tJ3_equals_null (l : Launch) (t1 : Nat) (b1 : List Int32) : Met l yJ3_equals (ws_ yJ3_equals cJ3_equals 3 (some .boolean)) { frames := 1, cells := 0, slots := 0, locals := 22 } (va_Pc [.ref t1, .null] (sBq t1 b1 none)) (rQ (some (.int 0))) 0 0 (fun _ => False) := by
  refine g_entry (by decide) (Nat.le_of_ble_eq_true rfl) ?_
  intro p e s m args below meth c ls hx hb hml hown hts hlk hr hB hl _
  have hS : va_S nA s.heap s.heap [] := va_S.rf
  have hown : s.vm.findClass RJ3 = some m.cls := hown
  have hl : lv_has ls 3 [(0, .ref t1), (1, .null)] := hl
  refine lv_aload_n hx hb dJ3_equals_0 rfl (lv_at hl 0 rfl) ?_
  refine lv_aload_nN hx hb dJ3_equals_1 rfl (lv_at hl 1 rfl) ?_
  refine lv_acmp_ne (rx := some t1) (ry := none) (tgt := 7) hx hb dJ3_equals_2 (by decide) (fun _ => ?_) (fun h9 => by cases h9)
  refine lv_aload_nN hx hb dJ3_equals_7 rfl (lv_at hl 1 rfl) ?_
  refine lv_instN hx hb dJ3_equals_8 ?_
  refine lv_if_eq (tgt := 54) hx hb dJ3_equals_11 (by decide) (fun _ => ?_) (fun h9 => absurd rfl h9)
  refine lv_iconst (v := 0) hx hb dJ3_equals_54 (by decide) ?_
  exact rq_bool hx hb hlk hr rfl dJ3_equals_55
set_option maxHeartbeats 1000000 in
theorem tJ3_equals (l : Launch) (t1 t2 : Nat) (b1 b2 : List Int32) (h1 : b1.length < 2 ^ 31) (h2 : b2.length < 2 ^ 31) : Met l yJ3_equals (ws_ yJ3_equals cJ3_equals 3 (some .boolean)) { frames := 1, cells := 0, slots := 0, locals := 22 } (va_Pc [.ref t1, .ref t2] (sBq t1 b1 (some (t2, b2)))) (rQ (some (.int (if b1 = b2 then 1 else 0)))) 0 0 (fun _ => False) := by
  refine g_entry (by decide) (Nat.le_of_ble_eq_true rfl) ?_
  intro p e s m args below meth c ls hx hb hml hown hts hlk hr hB hl _
  have hS : va_S nA s.heap s.heap [] := va_S.rf
  have hown : s.vm.findClass RJ3 = some m.cls := hown
  have hl : lv_has ls 3 [(0, .ref t1), (1, .ref t2)] := hl
  have hs1 := hB.2.1
  have hs2 : sS t2 b2 nA s s.heap := hB.2.2 (t2, b2) rfl
  refine lv_aload_n hx hb dJ3_equals_0 rfl (lv_at hl 0 rfl) ?_
  refine lv_aload_n hx hb dJ3_equals_1 rfl (lv_at hl 1 rfl) ?_
  refine lv_acmp_ne (rx := some t1) (ry := some t2) (tgt := 7) hx hb dJ3_equals_2 (by decide) (fun c_1 => ?_) (fun c_1 => ?_)
  · obtain ⟨-, -, tv1, hv1, hT1⟩ := id hs1
    obtain ⟨-, -, tv2, hv2, hT2⟩ := id hs2
    refine lv_aload_n hx hb dJ3_equals_7 rfl (lv_at hl 1 rfl) ?_
    refine va_instE hx hb hown (hts _ q566) hs2.recv dJ3_equals_8 ?_
    refine lv_if_eq (tgt := 54) hx hb dJ3_equals_11 (by decide) (fun h9 => absurd h9 (by decide)) (fun _ => ?_)
    refine lv_aload_n hx hb dJ3_equals_14 rfl (lv_at hl 1 rfl) ?_
    refine va_castE hx hb hown (hts _ q566) hs2.recv dJ3_equals_15 ?_
    refine lv_astore_n (lv' := [(2, .ref t2), (0, .ref t1), (1, .ref t2)]) hx hb dJ3_equals_18 rfl hl (by decide) rfl (fun ls hl => ?_)
    refine va_gets hx hb hB.1 hS hown (hts _ q173) (fun _ h9 => h9) dJ3_equals_19 ?_
    refine lv_if_eq (tgt := 36) hx hb dJ3_equals_22 (by decide) (fun h9 => absurd h9 (by decide)) (fun _ => ?_)
    refine lv_aload_n hx hb dJ3_equals_25 rfl (lv_at hl 1 rfl) ?_
    refine vk_getf hx hb hs1.2.1 hS hown (hts _ q417) (fun _ h9 => h9) dJ3_equals_26 ?_
    refine lv_aload_n hx hb dJ3_equals_29 rfl (lv_at hl 0 rfl) ?_
    refine vk_getf hx hb hs2.2.1 hS hown (hts _ q417) (fun _ h9 => h9) dJ3_equals_30 ?_
    refine lv_icmp_ne (tgt := 54) hx hb dJ3_equals_33 (by decide) (fun h9 => absurd h9 (fun z => z rfl)) (fun _ => ?_)
    refine lv_aload_n hx hb dJ3_equals_36 rfl (lv_at hl 1 rfl) ?_
    refine vk_getf hx hb hv1 hS hown (hts _ q416) (fun _ h9 => h9) dJ3_equals_37 ?_
    refine lv_aload_n hx hb dJ3_equals_40 rfl (lv_at hl 0 rfl) ?_
    refine vk_getf hx hb hv2 hS hown (hts _ q416) (fun _ h9 => h9) dJ3_equals_41 ?_
    refine r_call (W.runS (As := [.ref tv1, .ref tv2]) (rest := []) ⟨hx, hb, hml, hown, hts⟩ (tJ4_equals l tv1 tv2 b1 b2 h1 h2) (va_cwS 2 hts (lw_S q567 q568 q70 q569) rfl rfl rfl (by decide +kernel) ⟨Nat.le_of_ble_eq_true rfl, Nat.le_of_ble_eq_true rfl⟩) ⟨sB2_blind, fun U hU hW => ⟨rfl, by rw [hU]; exact hT1.moved hW.alike, by rw [hU]; exact hT2.moved hW.alike⟩⟩ rfl rfl hl.1 rfl (lv_room (Nat.le_of_ble_eq_true rfl)) dJ3_equals_44 ⟨Nat.zero_le _, Nat.zero_le _⟩) ?_
    refine lv_if_eq (tgt := 54) hx hb dJ3_equals_47 (by decide) (fun c_2 => ?_) (fun c_2 => ?_)
    · have hne : ¬ b1 = b2 := fun z => by rw [if_pos z] at c_2; cases c_2
      rw [if_neg hne]
      refine lv_iconst (v := 0) hx hb dJ3_equals_54 (by decide) ?_
      exact rq_bool hx hb hlk hr rfl dJ3_equals_55
    · have heq : b1 = b2 := Classical.byContradiction fun z => c_2 (by rw [if_neg z])
      rw [if_pos heq]
      refine lv_iconst (v := 1) hx hb dJ3_equals_50 (by decide) ?_
      refine lv_goto (tgt := 55) hx hb dJ3_equals_51 (by decide) ?_
      exact rq_bool hx hb hlk hr rfl dJ3_equals_55
  · have c_1 := Option.some.inj c_1
    subst c_1
    have heq : b1 = b2 := sS.inj h1 h2 hs1 hs2
    rw [if_pos heq]
    refine lv_iconst (v := 1) hx hb dJ3_equals_5 (by decide) ?_
    exact rq_bool hx hb hlk hr rfl dJ3_equals_6
