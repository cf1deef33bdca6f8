/-! way, as far as its questions go; by gen/wayw.py -/
set_option maxRecDepth 100000
abbrev wyO : Type := Int32 ⊕ (Int32 × Nat)
section WYW
variable {p : Program} {l : Launch} {e : Env} {R : Room} {s : State} {m : MethodId} {args : Array Value} {below : List Frame} {meth : Method} {c : Code}
variable {cc : ByteArray} {nL pc : Nat} {ls : Array Slot} {rest : List Value} {D : va_G} {G ad : Nat → Nat} {Kd : tK} {U : tU} {T : tT} {zz : Int32}
def wc_way_L56 (Kd : tK) (T : tT) (F : tF) (Ar : tA) (y1_9 : Int32) (y3_9 : Nat) (Kx92_9 : Unit → Prop) (Q : wyO → tF → tA → Prop) : Nat → Int32 → Prop
  | 0, _ => False
  | f56 + 1, y4_9 =>
    (((F 7) ≤ y4_9 → (Kx92_9 ())) ∧ (¬ (F 7) ≤ y4_9 → vp_in y4_9 40 ∧ wc_in ((Ar (44 + y3_9) y4_9.toNatClampNeg).toInt64) 0 48 (fun r_11 => ((¬ r_11 = 0 → ((wc_way_L56 Kd T F Ar y1_9 y3_9 Kx92_9 Q f56) (y4_9 + 1))) ∧ (r_11 = 0 → Q (.inl (-2)) F Ar)))))
set_option maxHeartbeats 4000000 in
theorem kwc_way_L56 (Kd : tK) (T : tT) {Q : wyO → tF → tA → Prop} {QC : Array Value → State → Outcome → State → Prop} {A : Nat → Prop} (X : cCx p s m args meth c cX0_way 6 RX0 D G) (hr : meth.sig.returnType = some .int) (hA : ∀ q, s.heap.size ≤ q → A q) (hret : ∀ (r : Int32) (F : tF) (Ar : tA) (H : Heap) (locs : List Loc) (t : State), Q (.inl r) F Ar → cP D A G ad s.heap Kd U T zz F Ar H locs → t.heap = H → QC args s (.returned (some (.int r))) t) (htail : ∀ (kind : Int32) (j : Nat) (F : tF) (Ar : tA) (H : Heap) (locs : List Loc) (ls : Array Slot), Q (.inr (kind, j)) F Ar → j < 4 → cP D A G ad s.heap Kd U T zz F Ar H locs → lv_has ls 6 [(0, .ref (ad 0)), (1, .int kind), (3, .ref (ad (40 + j)))] → W p l e wyRm s m args below meth c H locs 0 0 (MQ below QC args s 3 29 A) (F0 m 107 ls [])) (F : tF) (Ar : tA) (y1_9 : Int32) (y3_9 : Nat) (Kx92_9 : Unit → Prop) (hky3_9 : y3_9 < 4) (hKx92_9 : ∀ (u_ : Unit) (H : Heap) (locs : List Loc) (ls : Array Slot), cP D A G ad s.heap Kd U T zz F Ar H locs → lv_has ls 6 [(0, .ref (ad 0)), (1, .int y1_9), (3, .ref (ad (40 + y3_9)))] → Kx92_9 u_ → W p l e wyRm s m args below meth c H locs 0 0 (MQ below QC args s 3 29 A) (F0 m 92 ls [])) : ∀ (n : Nat) (y4_9 : Int32) (H : Heap) (locs : List Loc) (ls : Array Slot), cP D A G ad s.heap Kd U T zz F Ar H locs → lv_has ls 6 [(0, .ref (ad 0)), (1, .int y1_9), (3, .ref (ad (40 + y3_9))), (4, .int y4_9)] → wc_way_L56 Kd T F Ar y1_9 y3_9 Kx92_9 Q n y4_9 → W p l e wyRm s m args below meth c H locs 0 0 (MQ below QC args s 3 29 A) (F0 m 56 ls []) := by
  obtain ⟨hx, hb, hml, hown, hts, -, hlk, -⟩ := id X
  have S : CallFix p m c _ _ s args lw_all RX0 := ⟨hx, hb, hml, hown, hts⟩
  intro n
  induction n with
  | zero =>
    intro y4_9 H locs ls P hl hw
    exact hw.elim
  | succ n ih =>
    intro y4_9 H locs ls P hl hw
    have hKh56_9 := ih
    refine lv_iload hx hb dX0_way_56 (lv_at hl 3 rfl) ?_
    refine lv_aload_n hx hb dX0_way_58 rfl (lv_at hl 0 rfl) ?_
    refine cg_carts X P dX0_way_59 ?_
    refine lv_icmp_ge (tgt := 92) hx hb dX0_way_62 (by decide) (fun c_10 => ?_) (fun c_10 => ?_)
    · replace hw := hw.1 c_10
      exact hKx92_9 _ _ _ _ P (lv_sub hl [0, 1, 2] rfl) hw
    · replace hw := hw.2 c_10
      refine lv_aload_n hx hb dX0_way_65 rfl (lv_at hl 2 rfl) ?_
      refine c_sg_cells X P hky3_9 dX0_way_66 ?_
      refine lv_iload hx hb dX0_way_69 (lv_at hl 3 rfl) ?_
      refine c_iald X P (cArr_sc hky3_9) hw.1 dX0_way_71 ?_
      replace hw := hw.2
      refine lv_i2l hx hb dX0_way_72 rfl ?_
      refine lv_lconst (v := 0) hx hb dX0_way_73 (by decide) ?_
      refine lv_ldc2 (v := 48) hx hb hown (hts _ q795) dX0_way_74 ?_
      refine cwc_in S hw ⟨Nat.le_of_ble_eq_true rfl, Nat.le_of_ble_eq_true rfl⟩ ⟨Nat.zero_le _, Nat.zero_le _⟩ hl.1 (Nat.le_of_ble_eq_true rfl) dX0_way_77 (fun r_11 hw => ?_)
      refine lv_if_ne (tgt := 86) hx hb dX0_way_80 (by decide) (fun c_12 => ?_) (fun c_12 => ?_)
      · replace hw := hw.1 c_12
        refine lv_iinc (v := (y4_9 + 1)) (lv' := [(4, .int (y4_9 + 1)), (0, .ref (ad 0)), (1, .int y1_9), (3, .ref (ad (40 + y3_9)))]) hx hb dX0_way_86 hl (k := 3) rfl rfl (by decide) rfl (fun ls hl => ?_)
        refine lv_goto (tgt := 56) hx hb dX0_way_89 (by decide) ?_
        exact hKh56_9 _ _ _ _ P (lv_sub hl [1, 2, 3, 0] rfl) hw
      · replace hw := hw.2 c_12
        refine lv_bipush (v := (-2)) hx hb dX0_way_83 (by decide) ?_
        refine W.widen (k := 3) (n := 29) (Nat.zero_le _) (Nat.zero_le _) ?_
        exact W.iret hx hb hr (fun t ht hW => hret _ _ _ _ _ t hw P ht) P.2.2.1.2.2 dX0_way_85 hlk
def wc_way_J0 (Kd : tK) (T : tT) (F : tF) (Ar : tA) (y1_1 : Int32) (y2_1 : Int32) (Q : wyO → tF → tA → Prop) : Prop :=
  wc_in (y1_1.toInt64) 0 5 (fun r_2 => ((r_2 = 0 → Q (.inl (-2)) F Ar) ∧ (¬ r_2 = 0 → wc_isSheet y2_1 (fun r_4 => ((¬ r_4 = 0 → vp_in y2_1 4 ∧ (((0 : Int32) ≤ (F (40 + 2 * (y2_1.toNatClampNeg))) → (((F (41 + 2 * (y2_1.toNatClampNeg))) = (F 7) → (∃ n56, wc_way_L56 Kd T F Ar y1_1 (y2_1.toNatClampNeg) (fun (_ : Unit) => ((¬ (F 32) = 8 → Q (.inr (y1_1, (y2_1.toNatClampNeg))) F Ar) ∧ ((F 32) = 8 → Q (.inl (-4)) F Ar))) Q n56 0)) ∧ (¬ (F (41 + 2 * (y2_1.toNatClampNeg))) = (F 7) → Q (.inl (-2)) F Ar))) ∧ (¬ (0 : Int32) ≤ (F (40 + 2 * (y2_1.toNatClampNeg))) → Q (.inl (-11)) F Ar))) ∧ (r_4 = 0 → Q (.inl (-2)) F Ar))))))
set_option maxHeartbeats 4000000 in
theorem kwc_way_J0 {Q : wyO → tF → tA → Prop} {QC : Array Value → State → Outcome → State → Prop} {A : Nat → Prop} (X : cCx p s m args meth c cX0_way 6 RX0 D G) (hr : meth.sig.returnType = some .int) (hA : ∀ q, s.heap.size ≤ q → A q) (hret : ∀ (r : Int32) (F : tF) (Ar : tA) (H : Heap) (locs : List Loc) (t : State), Q (.inl r) F Ar → cP D A G ad s.heap Kd U T zz F Ar H locs → t.heap = H → QC args s (.returned (some (.int r))) t) (htail : ∀ (kind : Int32) (j : Nat) (F : tF) (Ar : tA) (H : Heap) (locs : List Loc) (ls : Array Slot), Q (.inr (kind, j)) F Ar → j < 4 → cP D A G ad s.heap Kd U T zz F Ar H locs → lv_has ls 6 [(0, .ref (ad 0)), (1, .int kind), (3, .ref (ad (40 + j)))] → W p l e wyRm s m args below meth c H locs 0 0 (MQ below QC args s 3 29 A) (F0 m 107 ls [])) {F : tF} {Ar : tA} (y1_1 : Int32) (y2_1 : Int32) {H : Heap} {locs : List Loc} {ls : Array Slot} (P : cP D A G ad s.heap Kd U T zz F Ar H locs) (hl : lv_has ls 6 [(0, .ref (ad 0)), (1, .int y1_1), (2, .int y2_1)]) (hw : wc_way_J0 Kd T F Ar y1_1 y2_1 Q) : W p l e wyRm s m args below meth c H locs 0 0 (MQ below QC args s 3 29 A) (F0 m 0 ls []) := by
  obtain ⟨hx, hb, hml, hown, hts, -, hlk, -⟩ := id X
  have S : CallFix p m c _ _ s args lw_all RX0 := ⟨hx, hb, hml, hown, hts⟩
  refine lv_iload_n hx hb dX0_way_0 rfl (lv_at hl 1 rfl) ?_
  refine lv_i2l hx hb dX0_way_1 rfl ?_
  refine lv_lconst (v := 0) hx hb dX0_way_2 (by decide) ?_
  refine lv_ldc2 (v := 5) hx hb hown (hts _ q790) dX0_way_3 ?_
  refine cwc_in S hw ⟨Nat.le_of_ble_eq_true rfl, Nat.le_of_ble_eq_true rfl⟩ ⟨Nat.zero_le _, Nat.zero_le _⟩ hl.1 (Nat.le_of_ble_eq_true rfl) dX0_way_6 (fun r_2 hw => ?_)
  refine lv_if_eq (tgt := 19) hx hb dX0_way_9 (by decide) (fun c_3 => ?_) (fun c_3 => ?_)
  · replace hw := hw.1 c_3
    refine lv_bipush (v := (-2)) hx hb dX0_way_19 (by decide) ?_
    refine W.widen (k := 3) (n := 29) (Nat.zero_le _) (Nat.zero_le _) ?_
    exact W.iret hx hb hr (fun t ht hW => hret _ _ _ _ _ t hw P ht) P.2.2.1.2.2 dX0_way_21 hlk
  · replace hw := hw.2 c_3
    refine lv_iload_n hx hb dX0_way_12 rfl (lv_at hl 2 rfl) ?_
    refine cwc_isSheet S hw ⟨Nat.le_of_ble_eq_true rfl, Nat.le_of_ble_eq_true rfl⟩ ⟨Nat.zero_le _, Nat.zero_le _⟩ hl.1 (Nat.le_of_ble_eq_true rfl) dX0_way_13 (fun r_4 hw => ?_)
    refine lv_if_ne (tgt := 22) hx hb dX0_way_16 (by decide) (fun c_5 => ?_) (fun c_5 => ?_)
    · replace hw := hw.1 c_5
      refine lv_aload_n hx hb dX0_way_22 rfl (lv_at hl 0 rfl) ?_
      refine cg_sheets X P dX0_way_23 ?_
      refine lv_iload_n hx hb dX0_way_26 rfl (lv_at hl 2 rfl) ?_
      refine c_saald X P hw.1 dX0_way_27 (fun hk_6 => ?_)
      replace hw := hw.2
      refine lv_astore_n (lv' := [(3, .ref (ad (40 + (y2_1.toNatClampNeg)))), (0, .ref (ad 0)), (1, .int y1_1), (2, .int y2_1)]) hx hb dX0_way_28 rfl hl (by decide) rfl (fun ls hl => ?_)
      refine lv_aload_n hx hb dX0_way_29 rfl (lv_at hl 0 rfl) ?_
      refine c_sg_sort X P hk_6 dX0_way_30 ?_
      refine lv_if_ge (tgt := 39) hx hb dX0_way_33 (by decide) (fun c_7 => ?_) (fun c_7 => ?_)
      · replace hw := hw.1 c_7
        refine lv_aload_n hx hb dX0_way_39 rfl (lv_at hl 0 rfl) ?_
        refine c_sg_size X P hk_6 dX0_way_40 ?_
        refine lv_aload_n hx hb dX0_way_43 rfl (lv_at hl 1 rfl) ?_
        refine cg_carts X P dX0_way_44 ?_
        refine lv_icmp_eq (tgt := 53) hx hb dX0_way_47 (by decide) (fun c_8 => ?_) (fun c_8 => ?_)
        · replace hw := hw.1 c_8
          refine lv_iconst (v := 0) hx hb dX0_way_53 (by decide) ?_
          refine lv_istore (lv' := [(4, .int 0), (3, .ref (ad (40 + (y2_1.toNatClampNeg)))), (0, .ref (ad 0)), (1, .int y1_1), (2, .int y2_1)]) hx hb dX0_way_54 hl (by decide) rfl (fun ls hl => ?_)
          obtain ⟨n_14, hw⟩ := hw
          refine kwc_way_L56 _ _ X hr hA hret htail _ _ _ _ _   hk_6 ?_ n_14 _ _ _ _ P (lv_sub hl [2, 3, 1, 0] rfl) hw
          · intro _ H locs ls P hl hw
            refine lv_aload_n hx hb dX0_way_92 rfl (lv_at hl 0 rfl) ?_
            refine cg_ways X P dX0_way_93 ?_
            refine c_lsize X P ⟨Nat.le_of_ble_eq_true rfl, Nat.le_of_ble_eq_true rfl⟩ hl.1 (Nat.le_of_ble_eq_true rfl) ⟨Nat.zero_le _, Nat.zero_le _⟩ dX0_way_96 ?_
            refine lv_bipush (v := 8) hx hb dX0_way_99 (by decide) ?_
            refine lv_icmp_ne (tgt := 107) hx hb dX0_way_101 (by decide) (fun c_13 => ?_) (fun c_13 => ?_)
            · replace hw := hw.1 c_13
              exact htail _ _ _ _ _ _ _ hw hk_6 P (lv_sub hl [0, 1, 2] rfl)
            · replace hw := hw.2 c_13
              refine lv_bipush (v := (-4)) hx hb dX0_way_104 (by decide) ?_
              refine W.widen (k := 3) (n := 29) (Nat.zero_le _) (Nat.zero_le _) ?_
              exact W.iret hx hb hr (fun t ht hW => hret _ _ _ _ _ t hw P ht) P.2.2.1.2.2 dX0_way_106 hlk
        · replace hw := hw.2 c_8
          refine lv_bipush (v := (-2)) hx hb dX0_way_50 (by decide) ?_
          refine W.widen (k := 3) (n := 29) (Nat.zero_le _) (Nat.zero_le _) ?_
          exact W.iret hx hb hr (fun t ht hW => hret _ _ _ _ _ t hw P ht) P.2.2.1.2.2 dX0_way_52 hlk
      · replace hw := hw.2 c_7
        refine lv_bipush (v := (-11)) hx hb dX0_way_36 (by decide) ?_
        refine W.widen (k := 3) (n := 29) (Nat.zero_le _) (Nat.zero_le _) ?_
        exact W.iret hx hb hr (fun t ht hW => hret _ _ _ _ _ t hw P ht) P.2.2.1.2.2 dX0_way_38 hlk
    · replace hw := hw.2 c_5
      refine lv_bipush (v := (-2)) hx hb dX0_way_19 (by decide) ?_
      refine W.widen (k := 3) (n := 29) (Nat.zero_le _) (Nat.zero_le _) ?_
      exact W.iret hx hb hr (fun t ht hW => hret _ _ _ _ _ t hw P ht) P.2.2.1.2.2 dX0_way_21 hlk
def wc_way (Kd : tK) (T : tT) (F : tF) (Ar : tA) (a1 : Int32) (a2 : Int32) (Q : wyO → tF → tA → Prop) : Prop :=
  (wc_way_J0 Kd T F Ar a1 a2 Q)
end WYW
