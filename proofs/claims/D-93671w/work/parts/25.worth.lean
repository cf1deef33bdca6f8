/-! ===== what a text's part says: the signs in the order in which they are done; worth of a tree of nodes ===== -/
set_option maxRecDepth 100000
def evO (op x y : Int32) : Int32 := if op = 11 then (if x = 0 ∧ y = 0 then 0 else 1) else if op = 12 then (if x = 0 ∨ y = 0 then 0 else 1) else if op = 14 then (if x < y then 1 else 0) else if op = 15 then (if x = y then 1 else 0) else if op = 16 then x + y else if op = 17 then x - y else x * y
def ev1 (nm : Nat → Int32) (st : List Int32) (c : Int32) : List Int32 :=
  if 100000 ≤ c ∨ c < 11 then (if c < 11 then nm c.toNatClampNeg else c - 100000) :: st
  else if c = 13 then (match st with
    | x :: r => (if x = 0 then 1 else 0) :: r
    | [] => [])
  else if c = 19 then (match st with
    | x :: r => (-x) :: r
    | [] => [])
  else (match st with
    | y :: x :: r => evO c x y :: r
    | _ => [])
def evS (nm : Nat → Int32) (code st : List Int32) : List Int32 := code.foldl (ev1 nm) st
def evT (code : List Int32) (nm : Nat → Int32) : Int32 := (evS nm code []).headD 0
theorem evS_app (nm : Nat → Int32) (a b st : List Int32) : evS nm (a ++ b) st = evS nm b (evS nm a st) := List.foldl_append
def hTr (D : va_G) (H : Heap) : Nat → Nat → List Int32 → Prop
  | 0, _, _ => False
  | n + 1, a, c => (∃ v nm : Int32, va_at D vcl (a, .inr (10, [.int v, .int nm])) H ∧ ((nm = -1 ∧ 0 ≤ v ∧ v ≤ 9999 ∧ c = [100000 + v]) ∨ (0 ≤ nm ∧ nm ≤ 5 ∧ c = [nm]))) ∨
    (∃ (b : Int32) (a1 : Nat) (c1 : List Int32), va_at D vcl (a, .inr (11, [.int b, .ref a1])) H ∧ hTr D H n a1 c1 ∧ ((b = 1 ∧ c = c1 ++ [13]) ∨ (b = 0 ∧ c = c1 ++ [19]))) ∨
    (∃ (sg op : Int32) (a1 a2 : Nat) (c1 c2 : List Int32), va_at D vcl (a, .inr (12, [.int sg, .ref a1, .ref a2])) H ∧ hTr D H n a1 c1 ∧ hTr D H n a2 c2 ∧ cOp sg op ∧ c = c1 ++ c2 ++ [op])
theorem cOp_ge {sg op : Int32} (h : cOp sg op) : ¬ (100000 ≤ op ∨ op < 11) ∧ ¬ op = 13 ∧ ¬ op = 19 := by
  rcases h with ⟨-, rfl⟩ | ⟨-, rfl⟩ | ⟨-, rfl⟩ | ⟨-, rfl⟩ | ⟨-, rfl⟩ | ⟨-, rfl⟩ | ⟨-, rfl⟩ <;> decide
theorem leaf_num {v : Int32} (h0 : 0 ≤ v) (h1 : v ≤ 9999) : (100000 : Int32) ≤ 100000 + v ∧ ¬ (100000 + v < 11) ∧ 100000 + v - 100000 = v := by
  obtain ⟨j, hj, rfl⟩ := nI_of2 (x := v) (M := 9999) (n := 9999) (by decide) (fun z => by have := Int32.lt_iff_toInt_lt.mp z; have := Int32.le_iff_toInt_le.mp h0; simp at *; omega) h1
  have e : (100000 : Int32) = nI 100000 := by decide
  have e11 : (11 : Int32) = nI 11 := by decide
  rw [e, e11, nI_add]
  refine ⟨nI_le (by omega) (by omega), fun z => ?_, ?_⟩
  · have := (nI_ltI (by omega) (by omega)).mp z
    omega
  · rw [pk_sub (by omega), Nat.add_sub_cancel_left]
theorem hTr_ev {D : va_G} {H : Heap} (nm : Nat → Int32) : ∀ (n a : Nat) (c : List Int32), hTr D H n a c → ∀ st, evS nm c st = evT c nm :: st
  | 0, _, _, h => h.elim
  | n + 1, a, c, h => by
    intro st
    rcases h with ⟨v, k, -, h⟩ | ⟨b, a1, c1, -, h1, h⟩ | ⟨sg, op, a1, a2, c1, c2, -, h1, h2, ho, rfl⟩
    · rcases h with ⟨-, h0, h9, rfl⟩ | ⟨h0, h5, rfl⟩
      · simp [evS, evT, ev1, (leaf_num h0 h9).1]
      · have : k < 11 := Int32.lt_of_le_of_lt h5 (by decide)
        simp [evS, evT, ev1, this]
    · have e1 := hTr_ev nm n a1 c1 h1
      rcases h with ⟨-, rfl⟩ | ⟨-, rfl⟩
      · unfold evT
        rw [evS_app, evS_app, e1 st, e1 []]
        simp [evS, ev1]
      · unfold evT
        rw [evS_app, evS_app, e1 st, e1 []]
        simp [evS, ev1]
    · have e1 := hTr_ev nm n a1 c1 h1
      have e2 := hTr_ev nm n a2 c2 h2
      obtain ⟨g1, g2, g3⟩ := cOp_ge ho
      unfold evT
      rw [evS_app, evS_app, evS_app, evS_app, e1 st, e1 [], e2 (_ :: st), e2 [_]]
      simp [evS, ev1, g1, g2, g3]
theorem ev_not {D : va_G} {H : Heap} {n a : Nat} {c : List Int32} (h : hTr D H n a c) (nm : Nat → Int32) : evT (c ++ [13]) nm = if evT c nm = 0 then 1 else 0 := by
  conv => lhs; unfold evT
  rw [evS_app, hTr_ev nm n a c h]
  simp [evS, ev1]
theorem ev_neg {D : va_G} {H : Heap} {n a : Nat} {c : List Int32} (h : hTr D H n a c) (nm : Nat → Int32) : evT (c ++ [19]) nm = -(evT c nm) := by
  conv => lhs; unfold evT
  rw [evS_app, hTr_ev nm n a c h]
  simp [evS, ev1]
theorem ev_two {D : va_G} {H : Heap} {n a1 a2 : Nat} {c1 c2 : List Int32} (h1 : hTr D H n a1 c1) (h2 : hTr D H n a2 c2) {sg op : Int32} (ho : cOp sg op) (nm : Nat → Int32) : evT (c1 ++ c2 ++ [op]) nm = evO op (evT c1 nm) (evT c2 nm) := by
  obtain ⟨g1, g2, g3⟩ := cOp_ge ho
  conv => lhs; unfold evT
  rw [evS_app, evS_app, hTr_ev nm n a1 c1 h1, hTr_ev nm n a2 c2 h2]
  simp [evS, ev1, g1, g2, g3]
theorem lw_F {own : String} {idx : Nat} {C : String} {x y : MethodName} {b : ByteArray} {L : Nat} {r : Option FieldType} (h1 : Cond.methodLink own idx x ∈ lw_all) (h2 : Cond.selects C x y ∈ lw_all) (h3 : Cond.instanceMethod y ∈ lw_all) (h4 : Cond.initialized y.cls ∈ lw_all) (h5 : Cond.code y b L r ∈ lw_all) : GoodIn lw_all (va_wsF own idx C x y (ws_ y b L r)) := by
  refine lw_app ?_ (lw_meth h5)
  intro w hw
  simp only [List.mem_cons, List.not_mem_nil, or_false] at hw
  rcases hw with e | e | e | e <;> rw [e] <;> assumption
theorem r_call5 {p : Program} {l : Launch} {e : Env} {R : Room} {s : State} {m : MethodId} {args : Array Value} {below : List Frame} {meth : Method} {c : Code} {H : Heap} {locs : List Loc} {cells slots : Nat} {Q : State → Prop} {pc : Nat} {ls : Array Slot} {rest st0 : List Value} {a : Array Value} {v : Option Value} (hr : va_Run5 p l e R s m args below meth c H locs cells slots 0 0 (F0 m pc ls st0) rest (rQ v a) (fun _ => False)) (kk : W p l e R s m args below meth c H locs cells slots Q (F0 m (pc + 5) ls (v.toList ++ rest))) : W p l e R s m args below meth c H locs cells slots Q (F0 m pc ls st0) := by
  intro T hT X
  obtain ⟨v, st₀, t, T', L, h0, X', hL, e1, e2, ⟨hv, hh⟩, st⟩ := hr T hT X
  cases hv
  obtain ⟨t2, a1, b1⟩ := kk T' (by rw [e1, hh, h0]) (Stand.forget X' (fun q h => (hL q h).elim))
  exact ⟨t2, st t2 a1, b1⟩
/-- what worth's start holds -/
def wB (D : va_G) (a b : Nat) (cI : ClassId) (nm : Nat → Int32) (E : va_E) (X : Heap → Prop) (V : State) : Prop := va_P D vcl [(a, E), (b, .inl (cI, 6, .inl nm))] V.heap ∧ X V.heap ∧ va_K D vcl [(cI, .int)] V ∧ nFw V
theorem wB_blind {as : List Value} {D : va_G} {a b : Nat} {cI : ClassId} {nm : Nat → Int32} {E : va_E} {X : Heap → Prop} : FrameBlind (va_Pc as (wB D a b cI nm E X)) := fun a V g mk q => by
  obtain ⟨q0, q1, q2, q3, q4⟩ := q
  exact ⟨q0, q1, q2, va_K.moved (u := V) (U := V.calling g mk a) (Vm.Alike.refl V.vm) q3, nFw.moved (u := V) (U := V.calling g mk a) (Vm.Alike.refl V.vm) q4⟩
/-- the row of a call of worth on a tree of depth n -/
def wRow (n : Nat) : Prop := ∀ {p : Program} {l : Launch} {e : Env} {R : Room} {s : State} {m : MethodId} {args : Array Value} {below : List Frame} {meth : Method} {c : Code} {H : Heap} {locs : List Loc} {cells slots : Nat} {Q : State → Prop} {cc : ByteArray} {nL pc idx : Nat} {ls : Array Slot} {rest : List Value} {own : String} {D : va_G} {a b : Nat} {cI : ClassId} {nm : Nat → Int32} {code : List Int32},
  CallFix p m c cc nL s args lw_all own → Cond.methodLink own idx yNode ∈ lw_all → va_K D vcl [(cI, .int)] s → nFw s → hTr D H n a code → va_at D vcl (b, .inl (cI, 6, .inl nm)) H → n ≤ R.frames → 23 * n ≤ R.locals → ls.size = nL → (rest.map fun v => v.category).sum ≤ 8 → (cells ≤ R.cells ∧ slots ≤ R.slots) → decode cc pc = .ok (.invokeinterface idx 2, 5) →
  W p l e R s m args below meth c H locs cells slots Q (F0 m (pc + 5) ls (.int (evT code nm) :: rest)) → W p l e R s m args below meth c H locs cells slots Q (F0 m pc ls (.ref b :: .ref a :: rest))
theorem tX5_worth (l : Launch) (D : va_G) (a b : Nat) (cI : ClassId) (nm : Nat → Int32) (v k : Int32) (code : List Int32) (h : (k = -1 ∧ 0 ≤ v ∧ v ≤ 9999 ∧ code = [100000 + v]) ∨ (0 ≤ k ∧ k ≤ 5 ∧ code = [k])) : Met l yX5_worth (ws_ yX5_worth cX5_worth 2 (some .int)) { frames := 0, cells := 0, slots := 0, locals := 0 } (va_Pc [.ref a, .ref b] (wB D a b cI nm (.inr (10, [.int v, .int k])) (fun _ => True))) (rQ (some (.int (evT code nm)))) 0 0 (fun _ => False) := by
  refine g_entry (by decide) (Nat.le_of_ble_eq_true rfl) ?_
  intro p e s m args below meth c ls hx hb hml hown hts hlk hr hB hl _
  obtain ⟨hP, -, hK, hF⟩ := hB
  have hl : lv_has ls 2 [(0, .ref a), (1, .ref b)] := hl
  have hown : s.vm.findClass RX5 = some m.cls := hown
  refine lv_aload_n hx hb dX5_worth_0 rfl (lv_at hl 0 rfl) ?_
  refine va_get (D := D) (ci := 10) (v := .int k) (C := RX5) (T := TX5) (N := 2) hx hb hts in_X5 hown hK hP 0 rfl rfl 1 (by decide) (hts _ q619) (fun _ h9 => h9) rfl dX5_worth_1 ?_
  refine lv_iconst (v := -1) hx hb dX5_worth_4 (by decide) ?_
  refine lv_icmp_ne (tgt := 15) hx hb dX5_worth_5 (by decide) (fun c_ => ?_) (fun c_ => ?_)
  · rcases h with ⟨rfl, -⟩ | ⟨h0, h5, rfl⟩
    · exact absurd rfl c_
    have h11 : k < 11 := Int32.lt_of_le_of_lt h5 (by decide)
    have hv : evT [k] nm = nm k.toNatClampNeg := by simp [evT, evS, ev1, h11]
    rw [hv]
    refine lv_aload_n hx hb dX5_worth_15 rfl (lv_at hl 1 rfl) ?_
    refine lv_aload_n hx hb dX5_worth_16 rfl (lv_at hl 0 rfl) ?_
    refine va_get (D := D) (ci := 10) (v := .int k) (C := RX5) (T := TX5) (N := 2) hx hb hts in_X5 hown hK hP 0 rfl rfl 1 (by decide) (hts _ q619) (fun _ h9 => h9) rfl dX5_worth_17 ?_
    refine va_iald hx hb hK hP 1 0 rfl rfl ?_ dX5_worth_20 ?_
    · rw [vp_in_iff]
      have h0 := Int32.le_iff_toInt_le.mp h0
      have h5 := Int32.le_iff_toInt_le.mp h5
      simp at h0 h5
      omega
    exact rq_int hx hb hlk hr dX5_worth_21
  · rcases h with ⟨-, h0, h9, rfl⟩ | ⟨h0, h5, rfl⟩
    · have hv : evT [100000 + v] nm = v := by
        obtain ⟨e1, e2, e3⟩ := leaf_num h0 h9
        simp [evT, evS, ev1, e1, e2, e3]
      rw [hv]
      refine lv_aload_n hx hb dX5_worth_8 rfl (lv_at hl 0 rfl) ?_
      refine va_get (D := D) (ci := 10) (v := .int v) (C := RX5) (T := TX5) (N := 2) hx hb hts in_X5 hown hK hP 0 rfl rfl 0 (by decide) (hts _ q618) (fun _ h9 => h9) rfl dX5_worth_9 ?_
      refine lv_goto (tgt := 21) hx hb dX5_worth_12 (by decide) ?_
      exact rq_int hx hb hlk hr dX5_worth_21
    · rw [c_] at h0
      exact absurd h0 (by decide)
theorem tX4_worth (l : Launch) (n : Nat) (ih : wRow n) (D : va_G) (a b a1 : Nat) (cI : ClassId) (nm : Nat → Int32) (bo : Int32) (c1 code : List Int32) (h : (bo = 1 ∧ code = c1 ++ [13]) ∨ (bo = 0 ∧ code = c1 ++ [19])) : Met l yX4_worth (ws_ yX4_worth cX4_worth 3 (some .int)) { frames := n, cells := 0, slots := 0, locals := 23 * n } (va_Pc [.ref a, .ref b] (wB D a b cI nm (.inr (11, [.int bo, .ref a1])) (fun H => hTr D H n a1 c1))) (rQ (some (.int (evT code nm)))) 0 0 (fun _ => False) := by
  refine g_entry (by decide) (Nat.le_of_ble_eq_true rfl) ?_
  intro p e s m args below meth c ls hx hb hml hown hts hlk hr hB hl _
  obtain ⟨hP, hT, hK, hF⟩ := hB
  have hl : lv_has ls 3 [(0, .ref a), (1, .ref b)] := hl
  have hown : s.vm.findClass RX4 = some m.cls := hown
  refine lv_aload_n hx hb dX4_worth_0 rfl (lv_at hl 0 rfl) ?_
  refine va_get (D := D) (ci := 11) (v := .ref a1) (C := RX4) (T := TX4) (N := 2) hx hb hts in_X4 hown hK hP 0 rfl rfl 1 (by decide) (hts _ q594) (fun _ h9 => h9) rfl dX4_worth_1 ?_
  refine lv_aload_n hx hb dX4_worth_4 rfl (lv_at hl 1 rfl) ?_
  refine ih ⟨hx, hb, hml, hown, hts⟩ q1065 hK hF hT (hP 1 _ rfl) (Nat.le_refl _) (Nat.le_refl _) hl.1 (Nat.le_of_ble_eq_true rfl) ⟨Nat.zero_le _, Nat.zero_le _⟩ dX4_worth_5 ?_
  refine lv_topi (fun x ex => ?_)
  refine lv_istore_n (lv' := [(2, .int x), (0, .ref a), (1, .ref b)]) hx hb dX4_worth_10 rfl hl (by decide) rfl (fun ls hl => ?_)
  refine lv_aload_n hx hb dX4_worth_11 rfl (lv_at hl 1 rfl) ?_
  refine va_get (D := D) (ci := 11) (v := .int bo) (C := RX4) (T := TX4) (N := 2) hx hb hts in_X4 hown hK hP 0 rfl rfl 0 (by decide) (hts _ q593) (fun _ h9 => h9) rfl dX4_worth_12 ?_
  refine lv_if_ne (tgt := 23) hx hb dX4_worth_15 (by decide) (fun c_ => ?_) (fun c_ => ?_)
  · rcases h with ⟨-, rfl⟩ | ⟨h0, -⟩
    · rw [ev_not hT, ← ex]
      refine lv_iload_n hx hb dX4_worth_23 rfl (lv_at hl 0 rfl) ?_
      refine lv_if_ne (tgt := 31) hx hb dX4_worth_24 (by decide) (fun d_ => ?_) (fun d_ => ?_)
      · rw [if_neg d_]
        refine lv_iconst (v := 0) hx hb dX4_worth_31 (by decide) ?_
        exact rq_int hx hb hlk hr dX4_worth_32
      · rw [if_pos d_]
        refine lv_iconst (v := 1) hx hb dX4_worth_27 (by decide) ?_
        refine lv_goto (tgt := 32) hx hb dX4_worth_28 (by decide) ?_
        exact rq_int hx hb hlk hr dX4_worth_32
    · exact absurd h0 c_
  · rcases h with ⟨h0, -⟩ | ⟨-, rfl⟩
    · rw [h0] at c_
      exact absurd c_ (by decide)
    · rw [ev_neg hT, ← ex]
      refine lv_iload_n hx hb dX4_worth_18 rfl (lv_at hl 0 rfl) ?_
      refine lv_ineg hx hb dX4_worth_19 ?_
      refine lv_goto (tgt := 32) hx hb dX4_worth_20 (by decide) ?_
      exact rq_int hx hb hlk hr dX4_worth_32
theorem tX6_worth (l : Launch) (n : Nat) (ih : wRow n) (D : va_G) (a b a1 a2 : Nat) (cI : ClassId) (nm : Nat → Int32) (sg op : Int32) (c1 c2 : List Int32) (ho : cOp sg op) : Met l yX6_worth (ws_ yX6_worth cX6_worth 4 (some .int)) { frames := n, cells := 0, slots := 0, locals := 23 * n } (va_Pc [.ref a, .ref b] (wB D a b cI nm (.inr (12, [.int sg, .ref a1, .ref a2])) (fun H => hTr D H n a1 c1 ∧ hTr D H n a2 c2))) (rQ (some (.int (evT (c1 ++ c2 ++ [op]) nm)))) 0 0 (fun _ => False) := by
  refine g_entry (by decide) (Nat.le_of_ble_eq_true rfl) ?_
  intro p e s m args below meth c ls hx hb hml hown hts hlk hr hB hl _
  obtain ⟨hP, hT, hK, hF⟩ := hB
  have hl : lv_has ls 4 [(0, .ref a), (1, .ref b)] := hl
  have hown : s.vm.findClass RX6 = some m.cls := hown
  rw [ev_two hT.1 hT.2 ho]
  refine lv_aload_n hx hb dX6_worth_0 rfl (lv_at hl 0 rfl) ?_
  refine va_get (D := D) (ci := 12) (v := .ref a1) (C := RX6) (T := TX6) (N := 3) hx hb hts in_X6 hown hK hP 0 rfl rfl 1 (by decide) (hts _ q638) (fun _ h9 => h9) rfl dX6_worth_1 ?_
  refine lv_aload_n hx hb dX6_worth_4 rfl (lv_at hl 1 rfl) ?_
  refine ih ⟨hx, hb, hml, hown, hts⟩ q1073 hK hF hT.1 (hP 1 _ rfl) (Nat.le_refl _) (Nat.le_refl _) hl.1 (Nat.le_of_ble_eq_true rfl) ⟨Nat.zero_le _, Nat.zero_le _⟩ dX6_worth_5 ?_
  generalize evT c1 nm = x
  refine lv_istore_n (lv' := [(2, .int x), (0, .ref a), (1, .ref b)]) hx hb dX6_worth_10 rfl hl (by decide) rfl (fun ls hl => ?_)
  refine lv_aload_n hx hb dX6_worth_11 rfl (lv_at hl 1 rfl) ?_
  refine va_get (D := D) (ci := 12) (v := .ref a2) (C := RX6) (T := TX6) (N := 3) hx hb hts in_X6 hown hK hP 0 rfl rfl 2 (by decide) (hts _ q639) (fun _ h9 => h9) rfl dX6_worth_12 ?_
  refine lv_aload_n hx hb dX6_worth_15 rfl (lv_at hl 2 rfl) ?_
  refine ih ⟨hx, hb, hml, hown, hts⟩ q1073 hK hF hT.2 (hP 1 _ rfl) (Nat.le_refl _) (Nat.le_refl _) hl.1 (Nat.le_of_ble_eq_true rfl) ⟨Nat.zero_le _, Nat.zero_le _⟩ dX6_worth_16 ?_
  generalize evT c2 nm = y
  refine lv_istore_n (lv' := [(3, .int y), (2, .int x), (0, .ref a), (1, .ref b)]) hx hb dX6_worth_21 rfl hl (by decide) rfl (fun ls hl => ?_)
  refine lv_aload_n hx hb dX6_worth_22 rfl (lv_at hl 2 rfl) ?_
  refine va_get (D := D) (ci := 12) (v := .int sg) (C := RX6) (T := TX6) (N := 3) hx hb hts in_X6 hown hK hP 0 rfl rfl 0 (by decide) (hts _ q637) (fun _ h9 => h9) rfl dX6_worth_23 ?_
  rcases ho with ⟨rfl, rfl⟩ | ⟨rfl, rfl⟩ | ⟨rfl, rfl⟩ | ⟨rfl, rfl⟩ | ⟨rfl, rfl⟩ | ⟨rfl, rfl⟩ | ⟨rfl, rfl⟩
  · refine lv_lookup (off := 58) (tgt := 84) hx hb dX6_worth_26 (by decide) (by decide) (by decide) ?_
    refine lv_iload_n hx hb dX6_worth_84 rfl (lv_at hl 1 rfl) ?_
    refine lv_iload_n hx hb dX6_worth_85 rfl (lv_at hl 0 rfl) ?_
    refine lv_iadd hx hb dX6_worth_86 ?_
    exact rq_int hx hb hlk hr dX6_worth_87
  · refine lv_lookup (off := 62) (tgt := 88) hx hb dX6_worth_26 (by decide) (by decide) (by decide) ?_
    refine lv_iload_n hx hb dX6_worth_88 rfl (lv_at hl 1 rfl) ?_
    refine lv_iload_n hx hb dX6_worth_89 rfl (lv_at hl 0 rfl) ?_
    refine lv_isub hx hb dX6_worth_90 ?_
    exact rq_int hx hb hlk hr dX6_worth_91
  · refine lv_lookup (off := 66) (tgt := 92) hx hb dX6_worth_26 (by decide) (by decide) (by decide) ?_
    refine lv_iload_n hx hb dX6_worth_92 rfl (lv_at hl 1 rfl) ?_
    refine lv_iload_n hx hb dX6_worth_93 rfl (lv_at hl 0 rfl) ?_
    refine lv_imul hx hb dX6_worth_94 ?_
    exact rq_int hx hb hlk hr dX6_worth_95
  · refine lv_lookup (off := 70) (tgt := 96) hx hb dX6_worth_26 (by decide) (by decide) (by decide) ?_
    refine lv_iload_n hx hb dX6_worth_96 rfl (lv_at hl 1 rfl) ?_
    refine lv_iload_n hx hb dX6_worth_97 rfl (lv_at hl 0 rfl) ?_
    have e : evO 14 x y = if x < y then 1 else 0 := rfl
    rw [e]
    refine lv_icmp_ge (tgt := 105) hx hb dX6_worth_98 (by decide) (fun c_ => ?_) (fun c_ => ?_)
    · rw [if_neg (Int32.not_lt.mpr c_)]
      refine lv_iconst (v := 0) hx hb dX6_worth_105 (by decide) ?_
      exact rq_int hx hb hlk hr dX6_worth_106
    · rw [if_pos (Int32.not_le.mp c_)]
      refine lv_iconst (v := 1) hx hb dX6_worth_101 (by decide) ?_
      refine lv_goto (tgt := 106) hx hb dX6_worth_102 (by decide) ?_
      exact rq_int hx hb hlk hr dX6_worth_106
  · refine lv_lookup (off := 81) (tgt := 107) hx hb dX6_worth_26 (by decide) (by decide) (by decide) ?_
    refine lv_iload_n hx hb dX6_worth_107 rfl (lv_at hl 1 rfl) ?_
    refine lv_iload_n hx hb dX6_worth_108 rfl (lv_at hl 0 rfl) ?_
    have e : evO 15 x y = if x = y then 1 else 0 := rfl
    rw [e]
    refine lv_icmp_ne (tgt := 116) hx hb dX6_worth_109 (by decide) (fun c_ => ?_) (fun c_ => ?_)
    · rw [if_neg c_]
      refine lv_iconst (v := 0) hx hb dX6_worth_116 (by decide) ?_
      exact rq_int hx hb hlk hr dX6_worth_117
    · rw [if_pos c_]
      refine lv_iconst (v := 1) hx hb dX6_worth_112 (by decide) ?_
      refine lv_goto (tgt := 117) hx hb dX6_worth_113 (by decide) ?_
      exact rq_int hx hb hlk hr dX6_worth_117
  · refine lv_lookup (off := 92) (tgt := 118) hx hb dX6_worth_26 (by decide) (by decide) (by decide) ?_
    refine lv_iload_n hx hb dX6_worth_118 rfl (lv_at hl 1 rfl) ?_
    have e : evO 12 x y = if x = 0 ∨ y = 0 then 0 else 1 := rfl
    rw [e]
    refine lv_if_eq (tgt := 130) hx hb dX6_worth_119 (by decide) (fun c_ => ?_) (fun c_ => ?_)
    · rw [if_pos (Or.inl c_)]
      refine lv_iconst (v := 0) hx hb dX6_worth_130 (by decide) ?_
      exact rq_int hx hb hlk hr dX6_worth_131
    · refine lv_iload_n hx hb dX6_worth_122 rfl (lv_at hl 0 rfl) ?_
      refine lv_if_eq (tgt := 130) hx hb dX6_worth_123 (by decide) (fun d_ => ?_) (fun d_ => ?_)
      · rw [if_pos (Or.inr d_)]
        refine lv_iconst (v := 0) hx hb dX6_worth_130 (by decide) ?_
        exact rq_int hx hb hlk hr dX6_worth_131
      · rw [if_neg (fun z => z.elim c_ d_)]
        refine lv_iconst (v := 1) hx hb dX6_worth_126 (by decide) ?_
        refine lv_goto (tgt := 131) hx hb dX6_worth_127 (by decide) ?_
        exact rq_int hx hb hlk hr dX6_worth_131
  · refine lv_lookup (off := 106) (tgt := 132) hx hb dX6_worth_26 (by decide) (by decide) (by decide) ?_
    refine lv_iload_n hx hb dX6_worth_132 rfl (lv_at hl 1 rfl) ?_
    have e : evO 11 x y = if x = 0 ∧ y = 0 then 0 else 1 := rfl
    rw [e]
    refine lv_if_ne (tgt := 140) hx hb dX6_worth_133 (by decide) (fun c_ => ?_) (fun c_ => ?_)
    · rw [if_neg (fun z => c_ z.1)]
      refine lv_iconst (v := 1) hx hb dX6_worth_140 (by decide) ?_
      refine lv_goto (tgt := 145) hx hb dX6_worth_141 (by decide) ?_
      exact rq_int hx hb hlk hr dX6_worth_145
    · refine lv_iload_n hx hb dX6_worth_136 rfl (lv_at hl 0 rfl) ?_
      refine lv_if_eq (tgt := 144) hx hb dX6_worth_137 (by decide) (fun d_ => ?_) (fun d_ => ?_)
      · rw [if_pos ⟨c_, d_⟩]
        refine lv_iconst (v := 0) hx hb dX6_worth_144 (by decide) ?_
        exact rq_int hx hb hlk hr dX6_worth_145
      · rw [if_neg (fun z => d_ z.2)]
        refine lv_iconst (v := 1) hx hb dX6_worth_140 (by decide) ?_
        refine lv_goto (tgt := 145) hx hb dX6_worth_141 (by decide) ?_
        exact rq_int hx hb hlk hr dX6_worth_145
theorem wP2 {D : va_G} {H : Heap} {a b : Nat} {x y : va_E} (h1 : va_at D vcl (a, x) H) (h2 : va_at D vcl (b, y) H) : va_P D vcl [(a, x), (b, y)] H := by
  intro k q hq
  match k, hq with
  | 0, hq => cases hq; exact h1
  | 1, hq => cases hq; exact h2
theorem wRow_all (n : Nat) : wRow n := by
  induction n with
  | zero =>
    unfold wRow
    intro p l e R s m args below meth c H locs cells slots Q cc nL pc idx ls rest own D a b cI nm code S hl hK hF hT
    exact hT.elim
  | succ n ih =>
    unfold wRow
    intro p l e R s m args below meth c H locs cells slots Q cc nL pc idx ls rest own D a b cI nm code S hl hK hF hT hb2 hfr hlo hls hst hcs hdg kk
    rcases hT with ⟨v, k, h1, h⟩ | ⟨bo, a1, c1, h1, h2, h⟩ | ⟨sg, op, a1, a2, c1, c2, h1, h2, h3, ho, rfl⟩
    · have hP := wP2 h1 hb2
      refine r_call5 (va_runF (C := "GateRoad$Leaf") (As := [.ref b]) (rest := rest) (hat := (hK.1 10 _ rfl).2) S (tX5_worth l D a b cI nm v k code h) (va_cwF (x := yNode) 1 S.2.2.2.2 (lw_F hl q1053 q1055 q86 q1057) rfl rfl rfl hF.1 (by decide +kernel) ⟨by show 0 + 1 ≤ _; omega, by show 8 + (2 + 11) + 0 ≤ _; omega⟩) ⟨wB_blind, va_recv hK hP (ci := 10) (q0 := 0) rfl rfl, fun V hV hW => ⟨rfl, by rw [hV]; exact hP, trivial, va_K.moved hW.alike hK, hF.moved hW.alike⟩⟩ rfl rfl hls rfl (lv_room hst) hdg hcs) kk
    · have hP := wP2 h1 hb2
      refine r_call5 (va_runF (C := "GateRoad$One") (As := [.ref b]) (rest := rest) (hat := (hK.1 11 _ rfl).2) S (tX4_worth l n ih D a b a1 cI nm bo c1 code h) (va_cwF (x := yNode) 1 S.2.2.2.2 (lw_F hl q1059 q1061 q85 q1063) rfl rfl rfl hF.2.1 (by decide +kernel) ⟨by show n + 1 ≤ _; omega, by show 8 + (3 + 11) + 23 * n ≤ _; omega⟩) ⟨wB_blind, va_recv hK hP (ci := 11) (q0 := 0) rfl rfl, fun V hV hW => ⟨rfl, by rw [hV]; exact hP, by rw [hV]; exact h2, va_K.moved hW.alike hK, hF.moved hW.alike⟩⟩ rfl rfl hls rfl (lv_room hst) hdg hcs) kk
    · have hP := wP2 h1 hb2
      refine r_call5 (va_runF (C := "GateRoad$Two") (As := [.ref b]) (rest := rest) (hat := (hK.1 12 _ rfl).2) S (tX6_worth l n ih D a b a1 a2 cI nm sg op c1 c2 ho) (va_cwF (x := yNode) 1 S.2.2.2.2 (lw_F hl q1067 q1069 q87 q1071) rfl rfl rfl hF.2.2 (by decide +kernel) ⟨by show n + 1 ≤ _; omega, by show 8 + (4 + 11) + 23 * n ≤ _; omega⟩) ⟨wB_blind, va_recv hK hP (ci := 12) (q0 := 0) rfl rfl, fun V hV hW => ⟨rfl, by rw [hV]; exact hP, by rw [hV]; exact ⟨h2, h3⟩, va_K.moved hW.alike hK, hF.moved hW.alike⟩⟩ rfl rfl hls rfl (lv_room hst) hdg hcs) kk
/-- a tree of numbered cells lies in the heap -/
theorem cTr_h {D : va_G} {H : Heap} {G ad : Nat → Nat} {F : tF} {Ar : tA} {Kd : tK} {U : tU} (hP : gw_P D vcl ad (cE G ad F Ar Kd U) H) : ∀ (n k : Nat) (c : List Int32), cTr U.1 ad n k c → hTr D H n (ad (200 + k)) c
  | 0, _, _, h => h.elim
  | n + 1, k, c, h => by
    have hE : ∀ x, U.1 k = some x → va_at D vcl (ad (200 + k), x) H := by
      intro x hx
      refine hP (200 + k) x ?_
      have h1 : cArr Kd (200 + k) = none := by
        unfold cArr
        rw [if_neg (by omega), if_neg (by omega)]
      rw [cE_ob h1]
      unfold cOb
      rw [if_neg (by omega), if_neg (by omega), if_neg (by omega), if_neg (by omega), if_neg (by omega), if_neg (by omega), if_neg (by omega), if_neg (by omega), if_pos (by omega), Nat.add_sub_cancel_left]
      exact hx
    rcases h with ⟨v, nm, h1, h⟩ | ⟨b, k1, c1, h1, h2, h⟩ | ⟨sg, op, k1, k2, c1, c2, h1, h2, h3, ho, hc⟩
    · exact Or.inl ⟨v, nm, hE _ h1, h⟩
    · exact Or.inr (Or.inl ⟨b, _, c1, hE _ h1, cTr_h hP n k1 c1 h2, h⟩)
    · exact Or.inr (Or.inr ⟨sg, op, _, _, c1, c2, hE _ h1, cTr_h hP n k1 c1 h2, cTr_h hP n k2 c2 h3, ho, hc⟩)
