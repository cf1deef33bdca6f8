/-! ===== Strings: indexOf, charAt; by gen/str2.py ===== -/
set_option maxRecDepth 100000
set_option maxHeartbeats 1000000 in
theorem tJ4_canEncode (l : Launch) (x : Int32) (h1 : ¬ 255 < x) : Met l yJ4_canEncode (ws_ yJ4_canEncode cJ4_canEncode 1 (some .boolean)) { frames := 0, cells := 0, slots := 0, locals := 0 } (va_Pc [.int x] (fun _ => True)) (rQ (some (.int 1))) 0 0 (fun _ => False) := by
  refine g_entry (by decide) (Nat.le_of_ble_eq_true rfl) ?_
  intro p e s m args below meth c ls hx hb hml hown hts hlk hr hB hl _
  have hS : va_S nA s.heap s.heap [] := va_S.rf
  have hown : s.vm.findClass RJ4 = some m.cls := hown
  have hl : lv_has ls 1 [(0, .int x)] := hl
  refine lv_iload_n hx hb dJ4_canEncode_0 rfl (lv_at hl 0 rfl) ?_
  refine lv_sipush (v := 255) hx hb dJ4_canEncode_1 (by decide) ?_
  refine lv_icmp_gt (tgt := 11) hx hb dJ4_canEncode_4 (by decide) (fun h9 => absurd h9 h1) (fun _ => ?_)
  refine lv_iconst (v := 1) hx hb dJ4_canEncode_7 (by decide) ?_
  refine lv_goto (tgt := 12) hx hb dJ4_canEncode_8 (by decide) ?_
  exact rq_bool hx hb hlk hr rfl dJ4_canEncode_12
set_option maxHeartbeats 1000000 in
theorem tJ4_canEncode_2 (l : Launch) (x : Int32) (h0 : ¬ x < 0) (h1 : ¬ 255 < x) : Met l yJ4_canEncode_2 (ws_ yJ4_canEncode_2 cJ4_canEncode_2 1 (some .boolean)) { frames := 0, cells := 0, slots := 0, locals := 0 } (va_Pc [.int x] (fun _ => True)) (rQ (some (.int 1))) 0 0 (fun _ => False) := by
  refine g_entry (by decide) (Nat.le_of_ble_eq_true rfl) ?_
  intro p e s m args below meth c ls hx hb hml hown hts hlk hr hB hl _
  have hS : va_S nA s.heap s.heap [] := va_S.rf
  have hown : s.vm.findClass RJ4 = some m.cls := hown
  have hl : lv_has ls 1 [(0, .int x)] := hl
  refine lv_iload_n hx hb dJ4_canEncode_2_0 rfl (lv_at hl 0 rfl) ?_
  refine lv_if_lt (tgt := 15) hx hb dJ4_canEncode_2_1 (by decide) (fun h9 => absurd h9 h0) (fun _ => ?_)
  refine lv_iload_n hx hb dJ4_canEncode_2_4 rfl (lv_at hl 0 rfl) ?_
  refine lv_sipush (v := 255) hx hb dJ4_canEncode_2_5 (by decide) ?_
  refine lv_icmp_gt (tgt := 15) hx hb dJ4_canEncode_2_8 (by decide) (fun h9 => absurd h9 h1) (fun _ => ?_)
  refine lv_iconst (v := 1) hx hb dJ4_canEncode_2_11 (by decide) ?_
  refine lv_goto (tgt := 16) hx hb dJ4_canEncode_2_12 (by decide) ?_
  exact rq_bool hx hb hlk hr rfl dJ4_canEncode_2_16
def ixf (b : List Int32) (v : Int32) : Nat → Nat → Int32
  | 0, _ => -1
  | d + 1, k => if b.getD k 0 = v then nI k else ixf b v d (k + 1)
def sB1 (t : Nat) (b : List Int32) (V : State) : Prop := sT t b nA V V.heap
theorem sB1_blind {as : List Value} {t : Nat} {b : List Int32} : FrameBlind (va_Pc as (sB1 t b)) := fun a V g mk q => ⟨q.1, va_T.moved (Vm.Alike.refl V.vm) q.2⟩
set_option maxHeartbeats 1000000 in
theorem tJ4_indexOfChar (l : Launch) (t : Nat) (b : List Int32) (x : Int32) (h1 : b.length < 2 ^ 31) : Met l yJ4_indexOfChar (ws_ yJ4_indexOfChar cJ4_indexOfChar 6 (some .int)) { frames := 0, cells := 0, slots := 0, locals := 0 } (va_Pc [.ref t, .int x, .int 0, .int (nI b.length)] (sB1 t b)) (rQ (some (.int (ixf b x.toInt8.toInt32 b.length 0)))) 0 0 (fun _ => False) := by
  refine g_entry (by decide) (Nat.le_of_ble_eq_true rfl) ?_
  intro p e s m args below meth c ls hx hb hml hown hts hlk hr hB hl _
  have hS : va_S nA s.heap s.heap [] := va_S.rf
  have hown : s.vm.findClass RJ4 = some m.cls := hown
  have hl : lv_has ls 6 [(0, .ref t), (1, .int x), (2, .int 0), (3, .int (nI b.length))] := hl
  refine lv_iload_n hx hb dJ4_indexOfChar_0 rfl (lv_at hl 1 rfl) ?_
  refine lv_i2b hx hb dJ4_indexOfChar_1 rfl ?_
  refine lv_istore (lv' := [(4, .int (x.toInt8.toInt32)), (0, .ref t), (1, .int x), (2, .int 0), (3, .int (nI b.length))]) hx hb dJ4_indexOfChar_2 hl (by decide) rfl (fun ls hl => ?_)
  refine lv_iload_n hx hb dJ4_indexOfChar_4 rfl (lv_at hl 3 rfl) ?_
  refine lv_istore (lv' := [(5, .int 0), (4, .int (x.toInt8.toInt32)), (0, .ref t), (1, .int x), (2, .int 0), (3, .int (nI b.length))]) hx hb dJ4_indexOfChar_5 hl (by decide) rfl (fun ls hl => ?_)
  have go : ∀ (d k : Nat) (ls : Array Slot), k + d = b.length → lv_has ls 6 [(5, .int (nI k)), (4, .int (x.toInt8.toInt32)), (0, .ref t), (1, .int x), (2, .int 0), (3, .int (nI b.length))] → W p l e { frames := 0, cells := 0, slots := 0, locals := 0 } s m args below meth c s.heap [] 0 0 (MQ below (rQ (some (.int (ixf b x.toInt8.toInt32 d k)))) args s 0 0 (fun _ => False)) (F0 m 7 ls []) := by
    intro d
    induction d with
    | zero =>
      intro k ls hk hl
      have hk : k = b.length := by omega
      subst hk
      refine lv_iload hx hb dJ4_indexOfChar_7 (lv_at hl 0 rfl) ?_
      refine lv_iload_n hx hb dJ4_indexOfChar_9 rfl (lv_at hl 5 rfl) ?_
      refine lv_icmp_ge (tgt := 31) hx hb dJ4_indexOfChar_10 (by decide) (fun _ => ?_) (fun h9 => absurd (Int32.le_refl _) h9)
      refine lv_iconst (v := (-1)) hx hb dJ4_indexOfChar_31 (by decide) ?_
      exact rq_int hx hb hlk hr dJ4_indexOfChar_32
    | succ d ih =>
      intro k ls hk hl
      have hlt : k < b.length := by omega
      refine lv_iload hx hb dJ4_indexOfChar_7 (lv_at hl 0 rfl) ?_
      refine lv_iload_n hx hb dJ4_indexOfChar_9 rfl (lv_at hl 5 rfl) ?_
      refine lv_icmp_ge (tgt := 31) hx hb dJ4_indexOfChar_10 (by decide) (fun h9 => absurd h9 (nI_ge hlt (by omega))) (fun _ => ?_)
      refine lv_aload_n hx hb dJ4_indexOfChar_13 rfl (lv_at hl 2 rfl) ?_
      refine lv_iload hx hb dJ4_indexOfChar_14 (lv_at hl 0 rfl) ?_
      refine va_tb hx hb hB hS (v := .int (b.getD k 0)) (nI_in hlt (by omega)) (by rw [nI_clamp (by omega)]) dJ4_indexOfChar_16 ?_
      refine lv_iload hx hb dJ4_indexOfChar_17 (lv_at hl 1 rfl) ?_
      refine lv_icmp_ne (tgt := 25) hx hb dJ4_indexOfChar_19 (by decide) (fun c_2 => ?_) (fun c_2 => ?_)
      · rw [ixf, if_neg c_2]
        refine lv_iinc (v := ((nI k) + 1)) (lv' := [(5, .int ((nI k) + 1)), (4, .int (x.toInt8.toInt32)), (0, .ref t), (1, .int x), (2, .int 0), (3, .int (nI b.length))]) hx hb dJ4_indexOfChar_25 hl (k := 0) rfl rfl (by decide) rfl (fun ls hl => ?_)
        refine lv_goto (tgt := 7) hx hb dJ4_indexOfChar_28 (by decide) ?_
        exact ih (k + 1) ls (by omega) (by rw [← nI_1]; exact hl)
      · rw [ixf, if_pos c_2]
        refine lv_iload hx hb dJ4_indexOfChar_22 (lv_at hl 0 rfl) ?_
        exact rq_int hx hb hlk hr dJ4_indexOfChar_24
  exact go b.length 0 ls (by omega) (by rw [nI_0]; exact hl)
set_option maxHeartbeats 1000000 in
theorem tJ4_indexOf (l : Launch) (t : Nat) (b : List Int32) (x : Int32) (h1 : b.length < 2 ^ 31) (hp : 0 < b.length) (h0 : ¬ x < 0) (h2 : ¬ 255 < x) : Met l yJ4_indexOf (ws_ yJ4_indexOf cJ4_indexOf 4 (some .int)) { frames := 1, cells := 0, slots := 0, locals := 25 } (va_Pc [.ref t, .int x, .int 0, .int (nI b.length)] (sB1 t b)) (rQ (some (.int (ixf b x.toInt8.toInt32 b.length 0)))) 0 0 (fun _ => False) := by
  refine g_entry (by decide) (Nat.le_of_ble_eq_true rfl) ?_
  intro p e s m args below meth c ls hx hb hml hown hts hlk hr hB hl _
  have hS : va_S nA s.heap s.heap [] := va_S.rf
  have hown : s.vm.findClass RJ4 = some m.cls := hown
  have hl : lv_has ls 4 [(0, .ref t), (1, .int x), (2, .int 0), (3, .int (nI b.length))] := hl
  refine lv_iload_n hx hb dJ4_indexOf_0 rfl (lv_at hl 1 rfl) ?_
  refine r_call (W.runS (As := [.int x]) (rest := []) ⟨hx, hb, hml, hown, hts⟩ (tJ4_canEncode_2 l x h0 h2) (va_cwS 1 hts (lw_S q515 q516 q70 q517) rfl rfl rfl (by decide +kernel) ⟨Nat.le_of_ble_eq_true rfl, Nat.le_of_ble_eq_true rfl⟩) ⟨blindT, fun U hU hW => ⟨rfl, trivial⟩⟩ rfl rfl hl.1 rfl (lv_room (Nat.le_of_ble_eq_true rfl)) dJ4_indexOf_1 ⟨Nat.zero_le _, Nat.zero_le _⟩) ?_
  refine lv_if_ne (tgt := 9) hx hb dJ4_indexOf_4 (by decide) (fun _ => ?_) (fun h9 => absurd h9 (by decide))
  refine lv_iload_n hx hb dJ4_indexOf_9 rfl (lv_at hl 2 rfl) ?_
  refine lv_iconst (v := 0) hx hb dJ4_indexOf_10 (by decide) ?_
  refine va_mmax hx hb (by rw [hml]; exact hl.1.symm) hown (hts _ q518) (hts _ q321) (hts _ q77) (hts _ q322) (Nat.le_of_ble_eq_true rfl) (Nat.le_of_ble_eq_true rfl) (Nat.zero_le _) (Nat.zero_le _) dJ4_indexOf_11 ?_
  rw [if_neg (show ¬ (0 : Int32) < 0 by decide)]
  refine lv_istore_n (lv' := [(2, .int 0), (0, .ref t), (1, .int x), (3, .int (nI b.length))]) hx hb dJ4_indexOf_14 rfl hl (by decide) rfl (fun ls hl => ?_)
  refine lv_iload_n hx hb dJ4_indexOf_15 rfl (lv_at hl 3 rfl) ?_
  refine lv_aload_n hx hb dJ4_indexOf_16 rfl (lv_at hl 1 rfl) ?_
  refine va_tlen hx hb hB hS (v := nI b.length) rfl dJ4_indexOf_17 ?_
  refine va_mmin hx hb (by rw [hml]; exact hl.1.symm) hown (hts _ q519) (hts _ q339) (hts _ q77) (hts _ q340) (Nat.le_of_ble_eq_true rfl) (Nat.le_of_ble_eq_true rfl) (Nat.zero_le _) (Nat.zero_le _) dJ4_indexOf_18 ?_
  rw [ite_self]
  refine lv_istore_n (lv' := [(3, .int (nI b.length)), (2, .int 0), (0, .ref t), (1, .int x)]) hx hb dJ4_indexOf_21 rfl hl (by decide) rfl (fun ls hl => ?_)
  refine lv_iload_n hx hb dJ4_indexOf_22 rfl (lv_at hl 1 rfl) ?_
  refine lv_iload_n hx hb dJ4_indexOf_23 rfl (lv_at hl 0 rfl) ?_
  refine lv_icmp_lt (tgt := 29) hx hb dJ4_indexOf_24 (by decide) (fun _ => ?_) (fun h9 => absurd (by rw [← nI_0]; exact nI_lt hp h1) h9)
  refine lv_aload_n hx hb dJ4_indexOf_29 rfl (lv_at hl 2 rfl) ?_
  refine lv_iload_n hx hb dJ4_indexOf_30 rfl (lv_at hl 3 rfl) ?_
  refine lv_iload_n hx hb dJ4_indexOf_31 rfl (lv_at hl 1 rfl) ?_
  refine lv_iload_n hx hb dJ4_indexOf_32 rfl (lv_at hl 0 rfl) ?_
  refine r_call (W.runS (As := [.ref t, .int x, .int 0, .int (nI b.length)]) (rest := []) ⟨hx, hb, hml, hown, hts⟩ (tJ4_indexOfChar l t b x h1) (va_cwS 4 hts (lw_S q520 q521 q70 q522) rfl rfl rfl (by decide +kernel) ⟨Nat.le_of_ble_eq_true rfl, Nat.le_of_ble_eq_true rfl⟩) ⟨sB1_blind, fun U hU hW => ⟨rfl, by unfold sB1; rw [hU]; exact va_T.moved hW.alike hB⟩⟩ rfl rfl hl.1 rfl (lv_room (Nat.le_of_ble_eq_true rfl)) dJ4_indexOf_33 ⟨Nat.zero_le _, Nat.zero_le _⟩) ?_
  exact rq_int hx hb hlk hr dJ4_indexOf_36
set_option maxHeartbeats 1000000 in
theorem tJ3_indexOf_2 (l : Launch) (t : Nat) (b : List Int32) (x : Int32) (h1 : b.length < 2 ^ 31) (hp : 0 < b.length) (h0 : ¬ x < 0) (h2 : ¬ 255 < x) : Met l yJ3_indexOf_2 (ws_ yJ3_indexOf_2 cJ3_indexOf_2 3 (some .int)) { frames := 2, cells := 0, slots := 0, locals := 48 } (va_Pc [.ref t, .int x, .int 0] (sB t b)) (rQ (some (.int (ixf b x.toInt8.toInt32 b.length 0)))) 0 0 (fun _ => False) := by
  refine g_entry (by decide) (Nat.le_of_ble_eq_true rfl) ?_
  intro p e s m args below meth c ls hx hb hml hown hts hlk hr hB hl _
  have hS : va_S nA s.heap s.heap [] := va_S.rf
  have hown : s.vm.findClass RJ3 = some m.cls := hown
  have hl : lv_has ls 3 [(0, .ref t), (1, .int x), (2, .int 0)] := hl
  obtain ⟨ho, hc, tv, hv, hT⟩ := id hB.2
  refine lv_aload_n hx hb dJ3_indexOf_2_0 rfl (lv_at hl 0 rfl) ?_
  refine r_call (W.runV (As := []) (rest := []) ⟨hx, hb, hml, hown, hts⟩ (tJ3_isLatin1 l t b) (cwV 0 hts (lw_V q179 q180 q181 q69 q182) rfl rfl rfl (by decide +kernel) ⟨Nat.le_of_ble_eq_true rfl, Nat.le_of_ble_eq_true rfl⟩) ⟨sB_blind, hB.2.recv, fun U hU hW => ⟨rfl, hB.at hU hW⟩⟩ rfl rfl hl.1 rfl (lv_room (Nat.le_of_ble_eq_true rfl)) dJ3_indexOf_2_1 ⟨Nat.zero_le _, Nat.zero_le _⟩) ?_
  refine lv_if_eq (tgt := 23) hx hb dJ3_indexOf_2_4 (by decide) (fun h9 => absurd h9 (by decide)) (fun _ => ?_)
  refine lv_aload_n hx hb dJ3_indexOf_2_7 rfl (lv_at hl 0 rfl) ?_
  refine vk_getf hx hb hv hS hown (hts _ q416) (fun _ h9 => h9) dJ3_indexOf_2_8 ?_
  refine lv_iload_n hx hb dJ3_indexOf_2_11 rfl (lv_at hl 1 rfl) ?_
  refine lv_iload_n hx hb dJ3_indexOf_2_12 rfl (lv_at hl 2 rfl) ?_
  refine lv_aload_n hx hb dJ3_indexOf_2_13 rfl (lv_at hl 0 rfl) ?_
  refine r_call (W.runV (As := []) (rest := [.int 0, .int x, .ref tv]) ⟨hx, hb, hml, hown, hts⟩ (tJ3_length l t b) (cwV 0 hts (lw_V q511 q166 q167 q69 q168) rfl rfl rfl (by decide +kernel) ⟨Nat.le_of_ble_eq_true rfl, Nat.le_of_ble_eq_true rfl⟩) ⟨sB_blind, hB.2.recv, fun U hU hW => ⟨rfl, hB.at hU hW⟩⟩ rfl rfl hl.1 rfl (lv_room (Nat.le_of_ble_eq_true rfl)) dJ3_indexOf_2_14 ⟨Nat.zero_le _, Nat.zero_le _⟩) ?_
  refine r_call (W.runS (As := [.ref tv, .int x, .int 0, .int (nI b.length)]) (rest := []) ⟨hx, hb, hml, hown, hts⟩ (tJ4_indexOf l tv b x h1 hp h0 h2) (va_cwS 4 hts (lw_S q512 q513 q70 q514) rfl rfl rfl (by decide +kernel) ⟨Nat.le_of_ble_eq_true rfl, Nat.le_of_ble_eq_true rfl⟩) ⟨sB1_blind, fun U hU hW => ⟨rfl, by unfold sB1; rw [hU]; exact va_T.moved hW.alike hT⟩⟩ rfl rfl hl.1 rfl (lv_room (Nat.le_of_ble_eq_true rfl)) dJ3_indexOf_2_17 ⟨Nat.zero_le _, Nat.zero_le _⟩) ?_
  refine lv_goto (tgt := 36) hx hb dJ3_indexOf_2_20 (by decide) ?_
  exact rq_int hx hb hlk hr dJ3_indexOf_2_36
set_option maxHeartbeats 1000000 in
theorem tJ3_indexOf (l : Launch) (t : Nat) (b : List Int32) (x : Int32) (h1 : b.length < 2 ^ 31) (hp : 0 < b.length) (h0 : ¬ x < 0) (h2 : ¬ 255 < x) : Met l yJ3_indexOf (ws_ yJ3_indexOf cJ3_indexOf 2 (some .int)) { frames := 3, cells := 0, slots := 0, locals := 70 } (va_Pc [.ref t, .int x] (sB t b)) (rQ (some (.int (ixf b x.toInt8.toInt32 b.length 0)))) 0 0 (fun _ => False) := by
  refine g_entry (by decide) (Nat.le_of_ble_eq_true rfl) ?_
  intro p e s m args below meth c ls hx hb hml hown hts hlk hr hB hl _
  have hS : va_S nA s.heap s.heap [] := va_S.rf
  have hown : s.vm.findClass RJ3 = some m.cls := hown
  have hl : lv_has ls 2 [(0, .ref t), (1, .int x)] := hl
  refine lv_aload_n hx hb dJ3_indexOf_0 rfl (lv_at hl 0 rfl) ?_
  refine lv_iload_n hx hb dJ3_indexOf_1 rfl (lv_at hl 1 rfl) ?_
  refine lv_iconst (v := 0) hx hb dJ3_indexOf_2 (by decide) ?_
  refine r_call (W.runV (As := [.int x, .int 0]) (rest := []) ⟨hx, hb, hml, hown, hts⟩ (tJ3_indexOf_2 l t b x h1 hp h0 h2) (cwV 2 hts (lw_V q507 q508 q509 q69 q510) rfl rfl rfl (by decide +kernel) ⟨Nat.le_of_ble_eq_true rfl, Nat.le_of_ble_eq_true rfl⟩) ⟨sB_blind, hB.2.recv, fun U hU hW => ⟨rfl, hB.at hU hW⟩⟩ rfl rfl hl.1 rfl (lv_room (Nat.le_of_ble_eq_true rfl)) dJ3_indexOf_3 ⟨Nat.zero_le _, Nat.zero_le _⟩) ?_
  exact rq_int hx hb hlk hr dJ3_indexOf_6
set_option maxHeartbeats 1000000 in
theorem tJ5_checkIndexV (l : Launch) (i n : Int32) (v : Value) (hv : v = .null ∨ ∃ a, v = .ref a) (h1 : ¬ i < 0) (h2 : i < n) : Met l yJ5_checkIndex (ws_ yJ5_checkIndex cJ5_checkIndex 3 (some .int)) { frames := 0, cells := 0, slots := 0, locals := 0 } (va_Pc [.int i, .int n, v] (fun _ => True)) (rQ (some (.int i))) 0 0 (fun _ => False) := by
  refine g_entry (by decide) (by rcases hv with h | ⟨a, h⟩ <;> subst h <;> exact Nat.le_of_ble_eq_true rfl) ?_
  intro p e s m args below meth c ls hx hb hml hown hts hlk hr hB hl _
  have hS : va_S nA s.heap s.heap [] := va_S.rf
  have hown : s.vm.findClass RJ5 = some m.cls := hown
  have hl : lv_has ls 3 [(0, .int i), (1, .int n), (2, v)] := by
    rcases hv with h | ⟨a, h⟩ <;> subst h <;> exact hl
  refine lv_iload_n hx hb dJ5_checkIndex_0 rfl (lv_at hl 0 rfl) ?_
  refine lv_if_lt (tgt := 9) hx hb dJ5_checkIndex_1 (by decide) (fun h9 => absurd h9 h1) (fun _ => ?_)
  refine lv_iload_n hx hb dJ5_checkIndex_4 rfl (lv_at hl 0 rfl) ?_
  refine lv_iload_n hx hb dJ5_checkIndex_5 rfl (lv_at hl 1 rfl) ?_
  refine lv_icmp_lt (tgt := 16) hx hb dJ5_checkIndex_6 (by decide) (fun _ => ?_) (fun h9 => absurd h2 h9)
  refine lv_iload_n hx hb dJ5_checkIndex_16 rfl (lv_at hl 0 rfl) ?_
  exact rq_int hx hb hlk hr dJ5_checkIndex_17
def zF (A : Nat → Prop) (U : State) (H : Heap) : Prop := va_Zq "jdk/internal/util/Preconditions" "SIOOBE_FORMATTER" "Ljava/util/function/BiFunction;" A U H
theorem zF_blind {as : List Value} : FrameBlind (va_Pc as (fun V => zF nA V V.heap)) := fun a V g mk q => ⟨q.1, va_Zq.moved (Vm.Alike.refl V.vm) q.2⟩
set_option maxHeartbeats 1000000 in
theorem tJ3_checkIndex (l : Launch) (i n : Int32) (h1 : ¬ i < 0) (h2 : i < n) : Met l yJ3_checkIndex (ws_ yJ3_checkIndex cJ3_checkIndex 2 none) { frames := 1, cells := 0, slots := 0, locals := 22 } (va_Pc [.int i, .int n] (fun V => zF nA V V.heap)) (rQ none) 0 0 (fun _ => False) := by
  refine g_entry (by decide) (Nat.le_of_ble_eq_true rfl) ?_
  intro p e s m args below meth c ls hx hb hml hown hts hlk hr hB hl _
  have hS : va_S nA s.heap s.heap [] := va_S.rf
  have hown : s.vm.findClass RJ3 = some m.cls := hown
  have hl : lv_has ls 2 [(0, .int i), (1, .int n)] := hl
  obtain ⟨v, hz, hv⟩ := va_Zq.val hB
  refine lv_iload_n hx hb dJ3_checkIndex_0 rfl (lv_at hl 0 rfl) ?_
  refine lv_iload_n hx hb dJ3_checkIndex_1 rfl (lv_at hl 1 rfl) ?_
  refine va_gets hx hb hz hS hown (hts _ q189) (fun _ h9 => h9) dJ3_checkIndex_2 ?_
  refine r_call (W.runS (As := [.int i, .int n, v]) (rest := []) ⟨hx, hb, hml, hown, hts⟩ (tJ5_checkIndexV l i n v hv h1 h2) (va_cwS 3 hts (lw_S q191 q192 q71 q193) rfl rfl rfl (by decide +kernel) ⟨Nat.le_of_ble_eq_true rfl, Nat.le_of_ble_eq_true rfl⟩) ⟨blindT, fun U hU hW => ⟨rfl, trivial⟩⟩ rfl rfl hl.1 rfl (lv_room (Nat.le_of_ble_eq_true rfl)) dJ3_checkIndex_5 ⟨Nat.zero_le _, Nat.zero_le _⟩) ?_
  refine lv_pop (va := .int i) hx hb dJ3_checkIndex_8 rfl ?_
  exact rq_void hx hb hlk hr dJ3_checkIndex_9
def sB1f (t : Nat) (b : List Int32) (V : State) : Prop := zF nA V V.heap ∧ sT t b nA V V.heap
theorem sB1f_blind {as : List Value} {t : Nat} {b : List Int32} : FrameBlind (va_Pc as (sB1f t b)) := fun a V g mk q => ⟨q.1, va_Zq.moved (Vm.Alike.refl V.vm) q.2.1, va_T.moved (Vm.Alike.refl V.vm) q.2.2⟩
def sBf (t : Nat) (b : List Int32) (V : State) : Prop := zF nA V V.heap ∧ sB t b V
theorem sBf_blind {as : List Value} {t : Nat} {b : List Int32} : FrameBlind (va_Pc as (sBf t b)) := fun a V g mk q => ⟨q.1, va_Zq.moved (Vm.Alike.refl V.vm) q.2.1, (sB_blind a V g mk ⟨q.1, q.2.2⟩).2⟩
def chV (v : Int32) : Int32 := ((v &&& 255).toUInt32 % 65536).toInt32
set_option maxHeartbeats 1000000 in
theorem tJ4_charAt (l : Launch) (t : Nat) (b : List Int32) (k : Nat) (h1 : b.length < 2 ^ 31) (hk : k < b.length) (hn : narrow .char (.int (chV (b.getD k 0))) = .int (chV (b.getD k 0))) : Met l yJ4_charAt (ws_ yJ4_charAt cJ4_charAt 2 (some .char)) { frames := 2, cells := 0, slots := 0, locals := 43 } (va_Pc [.ref t, .int (nI k)] (sB1f t b)) (rQ (some (.int (chV (b.getD k 0))))) 0 0 (fun _ => False) := by
  refine g_entry (by decide) (Nat.le_of_ble_eq_true rfl) ?_
  intro p e s m args below meth c ls hx hb hml hown hts hlk hr hB hl _
  have hS : va_S nA s.heap s.heap [] := va_S.rf
  have hown : s.vm.findClass RJ4 = some m.cls := hown
  have hl : lv_has ls 2 [(0, .ref t), (1, .int (nI k))] := hl
  refine lv_iload_n hx hb dJ4_charAt_0 rfl (lv_at hl 1 rfl) ?_
  refine lv_aload_n hx hb dJ4_charAt_1 rfl (lv_at hl 0 rfl) ?_
  refine va_tlen hx hb hB.2 hS (v := nI b.length) rfl dJ4_charAt_2 ?_
  refine r_call (W.runS (As := [.int (nI k), .int (nI b.length)]) (rest := []) ⟨hx, hb, hml, hown, hts⟩ (tJ3_checkIndex l (nI k) (nI b.length) (nI_pos (by omega)) (nI_lt hk h1)) (va_cwS 2 hts (lw_S q186 q187 q69 q188) rfl rfl rfl (by decide +kernel) ⟨Nat.le_of_ble_eq_true rfl, Nat.le_of_ble_eq_true rfl⟩) ⟨zF_blind, fun U hU hW => ⟨rfl, by show zF nA U U.heap; rw [hU]; exact va_Zq.moved hW.alike hB.1⟩⟩ rfl rfl hl.1 rfl (lv_room (Nat.le_of_ble_eq_true rfl)) dJ4_charAt_3 ⟨Nat.zero_le _, Nat.zero_le _⟩) ?_
  refine lv_aload_n hx hb dJ4_charAt_6 rfl (lv_at hl 0 rfl) ?_
  refine lv_iload_n hx hb dJ4_charAt_7 rfl (lv_at hl 1 rfl) ?_
  refine va_tb hx hb hB.2 hS (v := .int (b.getD k 0)) (nI_in hk h1) (by rw [nI_clamp (by omega)]) dJ4_charAt_8 ?_
  refine lv_sipush (v := 255) hx hb dJ4_charAt_9 (by decide) ?_
  refine lv_iand hx hb dJ4_charAt_12 ?_
  refine lv_i2c hx hb dJ4_charAt_13 rfl ?_
  exact rq_bool hx hb hlk hr hn dJ4_charAt_14
set_option maxHeartbeats 1000000 in
theorem tJ3_charAt (l : Launch) (t : Nat) (b : List Int32) (k : Nat) (h1 : b.length < 2 ^ 31) (hk : k < b.length) (hn : narrow .char (.int (chV (b.getD k 0))) = .int (chV (b.getD k 0))) : Met l yJ3_charAt (ws_ yJ3_charAt cJ3_charAt 2 (some .char)) { frames := 3, cells := 0, slots := 0, locals := 64 } (va_Pc [.ref t, .int (nI k)] (sBf t b)) (rQ (some (.int (chV (b.getD k 0))))) 0 0 (fun _ => False) := by
  refine g_entry (by decide) (Nat.le_of_ble_eq_true rfl) ?_
  intro p e s m args below meth c ls hx hb hml hown hts hlk hr hB hl _
  have hS : va_S nA s.heap s.heap [] := va_S.rf
  have hown : s.vm.findClass RJ3 = some m.cls := hown
  have hl : lv_has ls 2 [(0, .ref t), (1, .int (nI k))] := hl
  obtain ⟨ho, hc, tv, hv, hT⟩ := id hB.2.2
  refine lv_aload_n hx hb dJ3_charAt_0 rfl (lv_at hl 0 rfl) ?_
  refine r_call (W.runV (As := []) (rest := []) ⟨hx, hb, hml, hown, hts⟩ (tJ3_isLatin1 l t b) (cwV 0 hts (lw_V q179 q180 q181 q69 q182) rfl rfl rfl (by decide +kernel) ⟨Nat.le_of_ble_eq_true rfl, Nat.le_of_ble_eq_true rfl⟩) ⟨sB_blind, hB.2.2.recv, fun U hU hW => ⟨rfl, hB.2.at hU hW⟩⟩ rfl rfl hl.1 rfl (lv_room (Nat.le_of_ble_eq_true rfl)) dJ3_charAt_1 ⟨Nat.zero_le _, Nat.zero_le _⟩) ?_
  refine lv_if_eq (tgt := 16) hx hb dJ3_charAt_4 (by decide) (fun h9 => absurd h9 (by decide)) (fun _ => ?_)
  refine lv_aload_n hx hb dJ3_charAt_7 rfl (lv_at hl 0 rfl) ?_
  refine vk_getf hx hb hv hS hown (hts _ q416) (fun _ h9 => h9) dJ3_charAt_8 ?_
  refine lv_iload_n hx hb dJ3_charAt_11 rfl (lv_at hl 1 rfl) ?_
  refine r_call (W.runS (As := [.ref tv, .int (nI k)]) (rest := []) ⟨hx, hb, hml, hown, hts⟩ (tJ4_charAt l tv b k h1 hk hn) (va_cwS 2 hts (lw_S q183 q184 q70 q185) rfl rfl rfl (by decide +kernel) ⟨Nat.le_of_ble_eq_true rfl, Nat.le_of_ble_eq_true rfl⟩) ⟨sB1f_blind, fun U hU hW => ⟨rfl, by rw [hU]; exact va_Zq.moved hW.alike hB.1, by rw [hU]; exact va_T.moved hW.alike hT⟩⟩ rfl rfl hl.1 rfl (lv_room (Nat.le_of_ble_eq_true rfl)) dJ3_charAt_12 ⟨Nat.zero_le _, Nat.zero_le _⟩) ?_
  exact rq_bool hx hb hlk hr hn dJ3_charAt_15
