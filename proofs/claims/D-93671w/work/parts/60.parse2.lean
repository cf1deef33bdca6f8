/-! ===== not, one, all levels; by gen/rd6.py ===== -/
set_option maxRecDepth 100000
theorem nExt.le {N N1 : Nat → Option va_E} {sz sz0 : Nat} (h : nExt N N1 sz) (hz : sz0 ≤ sz) : nExt N N1 sz0 := ⟨h.1, fun q h1 h2 => Nat.le_trans hz (h.2 q h1 h2)⟩
theorem nI_pr {k : Nat} (h : 1 ≤ k) : nI k - 1 = nI (k - 1) := by
  obtain ⟨j, rfl⟩ : ∃ j, k = j + 1 := ⟨k - 1, by omega⟩
  exact nI_pred j
set_option maxHeartbeats 2000000 in
theorem tX2_not (l : Launch) (d fr lo fr1 lo1 fr2 lo2 : Nat) (spn sps : (Nat → Int32) → Nat → tR → pRes) (hnt : ∀ d', d = d' + 1 → pMet l yX2_not cX2_not 3 fr1 lo1 d' spn) (hsm : pMet l yX2_sum cX2_sum 3 fr2 lo2 d sps) (hfr : fr1 + 1 ≤ fr ∧ fr2 + 1 ≤ fr ∧ 10 ≤ fr) (hlo : 22 + lo1 ≤ lo ∧ 22 + lo2 ≤ lo ∧ 240 ≤ lo) : pMet l yX2_not cX2_not 3 fr lo d (fun tp n => sNot tp n (spn tp n) (sps tp n)) := by
  intro D r tx cB NN tp n ρ Nn sz hn hN hne hi ho
  refine xg_entry (by decide) (Nat.le_of_ble_eq_true rfl) ?_
  intro p e s m args below meth c ls hx hb hml hown hts hlk hr0 hB hl hno
  obtain ⟨⟨hsz, hE, hK, hKc⟩, hNn⟩ := hB
  subst hsz
  have hown : s.vm.findClass RX2 = some m.cls := hown
  have hl : lv_has ls 3 [(0, .ref r)] := hl
  have X : rX p s m args meth c cX2_not 3 D r tx cB NN n := ⟨hx, hb, hml, hown, hts, hlk, hno, hK, hKc, hne, hn, hN⟩
  have Y : rY D r tx cB NN tp n s (fun q => q = r) ρ Nn s.heap [] := ⟨hE, va_S.rf, hNn, rfl⟩
  have hrs : r < s.heap.size := by obtain ⟨w9, h9, -⟩ := hE; exact (h9 0 _ rfl).lt
  have hts9 : tx < s.heap.size := by obtain ⟨w9, h9, -⟩ := hE; exact (h9 1 _ rfl).lt
  have hi1 := hi.1
  have hi2 := hi.2.1
  obtain ⟨qs, hq1, hqs⟩ := hKc.2.2.2.2.1
  refine lv_aload_n hx hb dX2_not_0 rfl (lv_at hl 0 rfl) ?_
  refine va_ldcS hx hb hown hq1 dX2_not_1 ?_
  refine rd_is X Y hqs (by decide) ⟨by show 3 ≤ fr; omega, by show 66 ≤ lo; omega⟩ ⟨by show 0 ≤ 5 * (n - ρ.2.1) + 1; omega, by show 0 ≤ 36 * (n - ρ.2.1) + 7; omega⟩ hl.1 (Nat.le_of_ble_eq_true rfl) dX2_not_3 ?_
  by_cases hg : ρ.2.2.2.1 = some ntB
  · have hlt : ρ.2.1 < ρ.1 := hi.2.2.1 (Or.inl (by rw [hg]; exact fun z => by cases z))
    have hv : isV ρ.2.2.2.1 ntB = 1 := if_pos hg
    rw [hv]
    refine lv_if_eq (tgt := 38) hx hb dX2_not_6 (by decide) (fun h9 => absurd h9 (by decide)) (fun _ => ?_)
    refine lv_aload_n hx hb dX2_not_9 rfl (lv_at hl 0 rfl) ?_
    by_cases h5 : ρ.2.2.1 = 5
    · refine rd_nx X Y (x_runV (C := RX2) (As := []) (rest := []) ⟨hx, hb, hml, hown, hts⟩ (tX2_opens5 l D r tx cB NN tp n ρ s.heap.size hn hN hne h5) (cwV 0 hts (lw_V q583 q585 qs8 q73 q586) rfl rfl rfl (by decide +kernel) ⟨by show 7 + 1 ≤ fr; omega, by show 8 + (1 + 11) + 196 ≤ lo; omega⟩) (rd_pre X Y) rfl rfl hl.1 rfl (lv_room (Nat.le_of_ble_eq_true rfl)) dX2_not_10 ⟨by show 0 + 1 ≤ 5 * (n - ρ.2.1) + 1; omega, by show 0 + 7 ≤ 36 * (n - ρ.2.1) + 7; omega⟩) (by omega) (by omega) (fun pl t a0 L g1 g2 g3 g4 g5 g6 => ?_) (fun ρ1 H1 locs1 g1 _ _ _ => by cases g1)
      have g1 := Sum.inl.inj g1
      subst g1
      have hs5 : sOpens tp n ρ = .inl ρ.2.1 := if_pos h5
      exact ⟨g4, Or.inr ⟨_, a0, L, by simp only [sNot, if_pos hg, hs5], rfl, ⟨Nat.le_refl _, by omega⟩, g2, g3, g5.mono (by omega) (by omega), g6⟩⟩
    · obtain ⟨d', hd'⟩ : ∃ d', d = d' + 1 := ⟨d - 1, by omega⟩
      refine rd_nx X Y (x_runV (C := RX2) (As := []) (rest := []) ⟨hx, hb, hml, hown, hts⟩ (tX2_opens l D r tx cB NN tp n ρ s.heap.size hn hN hi2 hne (by omega)) (cwV 0 hts (lw_V q583 q585 qs8 q73 q586) rfl rfl rfl (by decide +kernel) ⟨by show 7 + 1 ≤ fr; omega, by show 8 + (1 + 11) + 196 ≤ lo; omega⟩) (rd_pre X Y) rfl rfl hl.1 rfl (lv_room (Nat.le_of_ble_eq_true rfl)) dX2_not_10 ⟨by show 0 + 4 ≤ 5 * (n - ρ.2.1) + 1; omega, by show 0 + 33 ≤ 36 * (n - ρ.2.1) + 7; omega⟩) (by omega) (by omega) (fun pl t a0 L g1 g2 g3 g4 g5 g6 => ?_) (fun ρ1 H1 locs1 g1 Y1 hz1 hk1 => ?_)
      · obtain ⟨j1, j2⟩ := sOpens_inl hi1 hi2 g1
        have j1 : ρ.1 ≤ pl := j1.elim (fun z => absurd z.1 h5) id
        exact ⟨g4, Or.inr ⟨pl, a0, L, by simp only [sNot, if_pos hg, g1], rfl, ⟨by omega, j2⟩, g2, g3, g5.mono (by omega) (by omega), g6⟩⟩
      · obtain ⟨j1, i1, j3, -⟩ := sOpens_inr hi2 g1
        have i11 := i1.1
        have i12 := i1.2.1
        have hz0 : s.heap.size ≤ H1.size := Y1.2.1.1
        refine lv_aload_n hx hb dX2_not_13 rfl (lv_at hl 0 rfl) ?_
        refine rd_pr X Y1 (x_runV (C := RX2) (As := []) (rest := []) ⟨hx, hb, hml, hown, hts⟩ (hnt d' hd' D r tx cB NN tp n ρ1 Nn H1.size hn hN hne i1 (by omega)) (cwV 0 hts (lw_V q578 q580 qs7 q73 q581) rfl rfl rfl (by decide +kernel) ⟨by show fr1 + 1 ≤ fr; omega, by show 8 + (3 + 11) + lo1 ≤ lo; omega⟩) (rp_pre X Y1) rfl rfl hl.1 rfl (lv_room (Nat.le_of_ble_eq_true rfl)) dX2_not_14 ⟨by show 0 + 4 + (5 * (n - ρ1.2.1) + 1) ≤ 5 * (n - ρ.2.1) + 1; omega, by show 0 + 33 + (36 * (n - ρ1.2.1) + 7) ≤ 36 * (n - ρ.2.1) + 7; omega⟩) (by omega) (by omega) (fun pl t a0 L k1 k2 k3 k4 k5 k6 k7 k8 => ?_) (fun cd ρ2 a N1 H2 locs2 k1 k2 k3 k4 Y2 kext kT kz kk => ?_)
        · exact ⟨k6, Or.inr ⟨pl, a0, L, by simp only [sNot, if_pos hg, g1, k1], rfl, ⟨by omega, k3⟩, k4, k5, k7.mono (by omega) (by omega), k8⟩⟩
        · have k31 := k3.1
          have k32 := k3.2.1
          refine lv_astore_n (lv' := [(1, .ref a), (0, .ref r)]) hx hb dX2_not_17 rfl hl (by decide) rfl (fun ls hl => ?_)
          refine lv_aload_n hx hb dX2_not_18 rfl (lv_at hl 1 rfl) ?_
          refine lv_dup hx hb dX2_not_19 rfl ?_
          refine rg_open X Y2 dX2_not_20 ?_
          refine lv_iconst (v := 1) hx hb dX2_not_23 (by decide) ?_
          refine lv_isub hx hb dX2_not_24 ?_
          refine rp_open X Y2 (o := ρ2.2.2.1 - 1) (nI_pr (by omega)) dX2_not_25 (fun H3 locs3 Y3 hz3 hk3 => ?_)
          have hzz3 : s.heap.size ≤ H3.size := Y3.2.1.1
          refine rd_newO X Y3 ⟨by show 0 + 4 + 5 * (ρ2.2.1 - ρ1.2.1) + 1 ≤ 5 * (n - ρ.2.1) + 1; omega, by show 0 + 33 + 36 * (ρ2.2.1 - ρ1.2.1) + 2 ≤ 36 * (n - ρ.2.1) + 7; omega⟩ dX2_not_28 (fun q2 H4 Y4 hU hq2 hN2 hlt2 => ?_)
          refine lv_dup hx hb dX2_not_31 rfl ?_
          refine lv_iconst (v := 1) hx hb dX2_not_32 (by decide) ?_
          refine lv_aload_n hx hb dX2_not_33 rfl (lv_at hl 0 rfl) ?_
          refine rd_initO X Y4 hU hN2 (by omega) (Or.inr rfl) hrs hts9 rfl rfl ⟨by show 2 ≤ fr; omega, by show 35 ≤ lo; omega⟩ ⟨by show 0 + 4 + 5 * (ρ2.2.1 - ρ1.2.1) + 1 ≤ 5 * (n - ρ.2.1) + 1; omega, by show 0 + 33 + 36 * (ρ2.2.1 - ρ1.2.1) + 2 ≤ 36 * (n - ρ.2.1) + 7; omega⟩ hl.1 (Nat.le_of_ble_eq_true rfl) dX2_not_34 (fun H5 locs5 Y5 => ?_)
          exact rd_ret (cd := cd ++ [13]) X Y5 (fun q h => Or.inl (Nat.lt_of_lt_of_le h hz0)) hr0 (by simp only [sNot, if_pos hg, g1, k1]; rfl) (by show ρ.2.1 < ρ2.2.1; omega) k3 (by show ρ2.2.2.1 - 1 = ρ.2.2.1; omega) ((kext.le hz0).trans (nExt.up hN2 (by omega)) (Nat.le_refl _)) (cTr_one hN2 kT (Or.inl ⟨rfl, rfl⟩) (by show ρ2.2.1 - ρ1.2.1 < ρ2.2.1 - ρ.2.1; omega)) (Nat.le_refl _) (by show _ ≤ 5 * (ρ2.2.1 - ρ.2.1); omega) (by show _ ≤ 36 * (ρ2.2.1 - ρ.2.1); omega) (by omega) (by omega) dX2_not_37
  · have hv : isV ρ.2.2.2.1 ntB = 0 := if_neg hg
    rw [hv]
    refine lv_if_eq (tgt := 38) hx hb dX2_not_6 (by decide) (fun _ => ?_) (fun h9 => absurd rfl h9)
    refine lv_aload_n hx hb dX2_not_38 rfl (lv_at hl 0 rfl) ?_
    refine rd_pr X Y (x_runV (C := RX2) (As := []) (rest := []) ⟨hx, hb, hml, hown, hts⟩ (hsm D r tx cB NN tp n ρ Nn s.heap.size hn hN hne hi (by omega)) (cwV 0 hts (lw_V q600 q602 qs9 q73 q603) rfl rfl rfl (by decide +kernel) ⟨by show fr2 + 1 ≤ fr; omega, by show 8 + (3 + 11) + lo2 ≤ lo; omega⟩) (rp_pre X Y) rfl rfl hl.1 rfl (lv_room (Nat.le_of_ble_eq_true rfl)) dX2_not_39 ⟨by show 0 + (5 * (n - ρ.2.1) + 1) ≤ 5 * (n - ρ.2.1) + 1; omega, by show 0 + (36 * (n - ρ.2.1) + 7) ≤ 36 * (n - ρ.2.1) + 7; omega⟩) (by omega) (by omega) (fun pl t a0 L k1 k2 k3 k4 k5 k6 k7 k8 => ?_) (fun cd ρ1 a N1 H locs k1 k2 i1 k4 Y1 kext kT kz kk => ?_)
    · exact ⟨k6, Or.inr ⟨pl, a0, L, by simp only [sNot, if_neg hg, k1], rfl, ⟨k2, k3⟩, k4, k5, k7.mono (by omega) (by omega), k8⟩⟩
    · have i11 := i1.1
      have i12 := i1.2.1
      refine lv_astore_n (lv' := [(1, .ref a), (0, .ref r)]) hx hb dX2_not_42 rfl hl (by decide) rfl (fun ls hl => ?_)
      have GO : ρ1.2.2.2.2.2 = 60 ∨ ρ1.2.2.2.2.2 = 61 → W p l e { frames := fr, cells := 5 * (n - ρ.2.1) + 1, slots := 36 * (n - ρ.2.1) + 7, locals := lo } s m args below meth c H locs (0 + 5 * (ρ1.2.1 - ρ.2.1)) (0 + 36 * (ρ1.2.1 - ρ.2.1)) (xMQ below (prQ D r tx cB NN tp n s.heap.size ρ Nn (sNot tp n (spn tp n) (sps tp n) ρ)) args s (5 * (n - ρ.2.1) + 1) (36 * (n - ρ.2.1) + 7) (rA r tx s.heap.size)) (F0 m 63 ls []) := by
        intro hg2
        have hlt : ρ1.2.1 < ρ1.1 := i1.2.2.1 (Or.inr (Or.inr (by rcases hg2 with h | h <;> rw [h] <;> decide)))
        refine lv_aload_n hx hb dX2_not_63 rfl (lv_at hl 1 rfl) ?_
        refine rg_sign X Y1 dX2_not_64 ?_
        refine lv_istore_n (lv' := [(2, .int ρ1.2.2.2.2.2), (1, .ref a), (0, .ref r)]) hx hb dX2_not_67 rfl hl (by decide) rfl (fun ls hl => ?_)
        refine lv_aload_n hx hb dX2_not_68 rfl (lv_at hl 2 rfl) ?_
        refine rd_nx X Y1 (x_runV (C := RX2) (As := []) (rest := []) ⟨hx, hb, hml, hown, hts⟩ (tX2_next l D r tx cB NN tp n ρ1 H.size hn hN i12 hne) (cwV 0 hts (lw_V q252 q254 qs0 q73 q255) rfl rfl rfl (by decide +kernel) ⟨by show 6 + 1 ≤ fr; omega, by show 8 + (2 + 11) + 175 ≤ lo; omega⟩) (rd_pre X Y1) rfl rfl hl.1 rfl (lv_room (Nat.le_of_ble_eq_true rfl)) dX2_not_69 ⟨by show 0 + 5 * (ρ1.2.1 - ρ.2.1) + 4 ≤ 5 * (n - ρ.2.1) + 1; omega, by show 0 + 36 * (ρ1.2.1 - ρ.2.1) + 33 ≤ 36 * (n - ρ.2.1) + 7; omega⟩) (by omega) (by omega) (fun pl t a0 L g1 g2 g3 g4 g5 g6 => ?_) (fun ρ2 H1 locs1 g1 Y2 hz1 hk1 => ?_)
        · obtain ⟨j1, j2⟩ := sNext_inl i12 g1
          exact ⟨g4, Or.inr ⟨pl, a0, L, by simp only [sNot, if_neg hg, k1, if_pos hg2, g1], rfl, ⟨by omega, j2⟩, g2, g3, g5.mono (by omega) (by omega), g6⟩⟩
        · obtain ⟨j1, i2, j3⟩ := sNext_inr i12 g1
          have i21 := i2.1
          have i22 := i2.2.1
          refine rd_newT X Y2 ⟨by show 0 + 5 * (ρ1.2.1 - ρ.2.1) + 4 + 1 ≤ 5 * (n - ρ.2.1) + 1; omega, by show 0 + 36 * (ρ1.2.1 - ρ.2.1) + 33 + 3 ≤ 36 * (n - ρ.2.1) + 7; omega⟩ dX2_not_72 (fun q2 H2 Y3 hU hq2 hN2 hlt2 => ?_)
          refine lv_dup hx hb dX2_not_75 rfl ?_
          refine lv_iload_n hx hb dX2_not_76 rfl (lv_at hl 0 rfl) ?_
          refine lv_aload_n hx hb dX2_not_77 rfl (lv_at hl 1 rfl) ?_
          refine lv_aload_n hx hb dX2_not_78 rfl (lv_at hl 2 rfl) ?_
          have hz2 : s.heap.size ≤ H2.size := Y3.2.1.1
          have hz10 : s.heap.size ≤ H1.size := Y2.2.1.1
          refine rd_pr X Y3 (x_runV (C := RX2) (As := []) (rest := [.ref a, .int ρ1.2.2.2.2.2, .ref q2, .ref q2]) ⟨hx, hb, hml, hown, hts⟩ (hsm D r tx cB NN tp n ρ2 N1 H2.size hn hN hne i2 (by omega)) (cwV 0 hts (lw_V q600 q602 qs9 q73 q603) rfl rfl rfl (by decide +kernel) ⟨by show fr2 + 1 ≤ fr; omega, by show 8 + (3 + 11) + lo2 ≤ lo; omega⟩) (rp_pre X Y3) rfl rfl hl.1 rfl (lv_room (Nat.le_of_ble_eq_true rfl)) dX2_not_79 ⟨by show 0 + 5 * (ρ1.2.1 - ρ.2.1) + 4 + 1 + (5 * (n - ρ2.2.1) + 1) ≤ 5 * (n - ρ.2.1) + 1; omega, by show 0 + 36 * (ρ1.2.1 - ρ.2.1) + 33 + 3 + (36 * (n - ρ2.2.1) + 7) ≤ 36 * (n - ρ.2.1) + 7; omega⟩) (by omega) (by omega) (fun pl t a0 L m1 m2 m3 m4 m5 m6 m7 m8 => ?_) (fun cd2 ρ3 a2 N2 H3 locs3 m1 m2 m3 m4 Y4 mext mT mz mk => ?_)
          · exact ⟨m6, Or.inr ⟨pl, a0, L, by simp only [sNot, if_neg hg, k1, if_pos hg2, g1, m1], rfl, ⟨by omega, m3⟩, m4, m5, m7.mono (by omega) (by omega), m8⟩⟩
          · have m31 := m3.1
            have m32 := m3.2.1
            have hq2n : N2 q2 = none := by
              cases hc : N2 q2 with
              | none => rfl
              | some x => exact absurd (mext.2 q2 hN2 (by rw [hc]; exact fun z => by cases z)) (by omega)
            have hU3 : va_P D vcl [(q2, .inr (12, [.int 0, .null, .null]))] H3 := hU.kept (fun k q hq => by
              match k, hq with
              | 0, hq => cases hq; exact mk _ hlt2 (fun z => absurd (show q2 = r from z) (by omega)) (fun z => absurd (show q2 = tx from z) (by omega)))
            refine rd_initT X Y4 hU3 hq2n (by omega) hlt2 hrs hts9 ⟨by show 2 ≤ fr; omega, by show 35 ≤ lo; omega⟩ ⟨by show 0 + 5 * (ρ1.2.1 - ρ.2.1) + 4 + 1 + 5 * (ρ3.2.1 - ρ2.2.1) ≤ 5 * (n - ρ.2.1) + 1; omega, by show 0 + 36 * (ρ1.2.1 - ρ.2.1) + 33 + 3 + 36 * (ρ3.2.1 - ρ2.2.1) ≤ 36 * (n - ρ.2.1) + 7; omega⟩ hl.1 (Nat.le_of_ble_eq_true rfl) dX2_not_82 (fun H4 locs4 Y5 => ?_)
            have hop : cOp ρ1.2.2.2.2.2 (if ρ1.2.2.2.2.2 = 60 then 14 else 15) := by
              rcases hg2 with h | h <;> rw [h]
              · exact Or.inr (Or.inr (Or.inr (Or.inl ⟨rfl, rfl⟩)))
              · exact Or.inr (Or.inr (Or.inr (Or.inr (Or.inl ⟨rfl, rfl⟩))))
            exact rd_ret (cd := cd ++ cd2 ++ [if ρ1.2.2.2.2.2 = 60 then 14 else 15]) X Y5 (fun q h => Nat.lt_of_lt_of_le h hz2) hr0 (by simp only [sNot, if_neg hg, k1, if_pos hg2, g1, m1]) (by omega) m3 (by omega) ((kext.trans mext hz2).trans (nExt.up hq2n (by omega)) (Nat.le_refl _)) (cTr_two hq2n (cTr_mono mext.1 _ _ _ _ (Nat.le_refl _) kT) mT hop (d := ρ3.2.1 - ρ.2.1) (by omega) (by omega)) (Nat.le_refl _) (by omega) (by omega) (by omega) (by omega) dX2_not_85
      refine lv_aload_n hx hb dX2_not_43 rfl (lv_at hl 1 rfl) ?_
      refine rg_sign X Y1 dX2_not_44 ?_
      refine lv_bipush (v := 60) hx hb dX2_not_47 (by decide) ?_
      refine lv_icmp_eq (tgt := 63) hx hb dX2_not_49 (by decide) (fun h60 => GO (Or.inl h60)) (fun h60 => ?_)
      refine lv_aload_n hx hb dX2_not_52 rfl (lv_at hl 1 rfl) ?_
      refine rg_sign X Y1 dX2_not_53 ?_
      refine lv_bipush (v := 61) hx hb dX2_not_56 (by decide) ?_
      refine lv_icmp_eq (tgt := 63) hx hb dX2_not_58 (by decide) (fun h61 => GO (Or.inr h61)) (fun h61 => ?_)
      refine lv_aload_n hx hb dX2_not_61 rfl (lv_at hl 0 rfl) ?_
      exact rd_ret X Y1 (fun q h => h) hr0 (by simp only [sNot, if_neg hg, k1, if_neg (show ¬ (ρ1.2.2.2.2.2 = 60 ∨ ρ1.2.2.2.2.2 = 61) from fun z => z.elim h60 h61)]) k2 i1 k4 kext kT (Nat.le_refl _) (by omega) (by omega) (by omega) (by omega) dX2_not_62
set_option maxHeartbeats 2000000 in
theorem tX2_one (l : Launch) (d fr lo fr1 lo1 fr2 lo2 : Nat) (sp1 sp2 : (Nat → Int32) → Nat → tR → pRes) (hone : ∀ d', d = d' + 1 → pMet l yX2_one cX2_one 2 fr1 lo1 d' sp1) (hei : ∀ d', d = d' + 1 → pMet l yX2_either cX2_either 2 fr2 lo2 d' sp2) (hfr : fr1 + 1 ≤ fr ∧ fr2 + 1 ≤ fr ∧ 10 ≤ fr) (hlo : 21 + lo1 ≤ lo ∧ 21 + lo2 ≤ lo ∧ 240 ≤ lo) : pMet l yX2_one cX2_one 2 fr lo d (fun tp n => sOne tp n (sp1 tp n) (sp2 tp n)) := by
  intro D r tx cB NN tp n ρ Nn sz hn hN hne hi ho
  refine xg_entry (by decide) (Nat.le_of_ble_eq_true rfl) ?_
  intro p e s m args below meth c ls hx hb hml hown hts hlk hr0 hB hl hno
  obtain ⟨⟨hsz, hE, hK, hKc⟩, hNn⟩ := hB
  subst hsz
  have hown : s.vm.findClass RX2 = some m.cls := hown
  have hl : lv_has ls 2 [(0, .ref r)] := hl
  have X : rX p s m args meth c cX2_one 2 D r tx cB NN n := ⟨hx, hb, hml, hown, hts, hlk, hno, hK, hKc, hne, hn, hN⟩
  have Y : rY D r tx cB NN tp n s (fun q => q = r) ρ Nn s.heap [] := ⟨hE, va_S.rf, hNn, rfl⟩
  have hrs : r < s.heap.size := by obtain ⟨w9, h9, -⟩ := hE; exact (h9 0 _ rfl).lt
  have hts9 : tx < s.heap.size := by obtain ⟨w9, h9, -⟩ := hE; exact (h9 1 _ rfl).lt
  have hi1 := hi.1
  have hi2 := hi.2.1
  refine lv_aload_n hx hb dX2_one_0 rfl (lv_at hl 0 rfl) ?_
  refine rg_sign X Y dX2_one_1 ?_
  refine lv_bipush (v := 45) hx hb dX2_one_4 (by decide) ?_
  refine lv_icmp_ne (tgt := 38) hx hb dX2_one_6 (by decide) (fun hg => ?_) (fun hg => ?_)
  rotate_left
  · have hlt : ρ.2.1 < ρ.1 := hi.2.2.1 (Or.inr (Or.inr (by rw [hg]; decide)))
    refine lv_aload_n hx hb dX2_one_9 rfl (lv_at hl 0 rfl) ?_
    by_cases h5 : ρ.2.2.1 = 5
    · refine rd_nx X Y (x_runV (C := RX2) (As := []) (rest := []) ⟨hx, hb, hml, hown, hts⟩ (tX2_opens5 l D r tx cB NN tp n ρ s.heap.size hn hN hne h5) (cwV 0 hts (lw_V q583 q585 qs8 q73 q586) rfl rfl rfl (by decide +kernel) ⟨by show 7 + 1 ≤ fr; omega, by show 8 + (1 + 11) + 196 ≤ lo; omega⟩) (rd_pre X Y) rfl rfl hl.1 rfl (lv_room (Nat.le_of_ble_eq_true rfl)) dX2_one_10 ⟨by show 0 + 1 ≤ 5 * (n - ρ.2.1) + 1; omega, by show 0 + 7 ≤ 36 * (n - ρ.2.1) + 7; omega⟩) (by omega) (by omega) (fun pl t a0 L g1 g2 g3 g4 g5 g6 => ?_) (fun ρ1 H1 locs1 g1 _ _ _ => by cases g1)
      have g1 := Sum.inl.inj g1
      subst g1
      have hs5 : sOpens tp n ρ = .inl ρ.2.1 := if_pos h5
      exact ⟨g4, Or.inr ⟨_, a0, L, by simp only [sOne, if_pos hg, hs5], rfl, ⟨Nat.le_refl _, by omega⟩, g2, g3, g5.mono (by omega) (by omega), g6⟩⟩
    obtain ⟨d', hd'⟩ : ∃ d', d = d' + 1 := ⟨d - 1, by omega⟩
    refine rd_nx X Y (x_runV (C := RX2) (As := []) (rest := []) ⟨hx, hb, hml, hown, hts⟩ (tX2_opens l D r tx cB NN tp n ρ s.heap.size hn hN hi2 hne (by omega)) (cwV 0 hts (lw_V q583 q585 qs8 q73 q586) rfl rfl rfl (by decide +kernel) ⟨by show 7 + 1 ≤ fr; omega, by show 8 + (1 + 11) + 196 ≤ lo; omega⟩) (rd_pre X Y) rfl rfl hl.1 rfl (lv_room (Nat.le_of_ble_eq_true rfl)) dX2_one_10 ⟨by show 0 + 4 ≤ 5 * (n - ρ.2.1) + 1; omega, by show 0 + 33 ≤ 36 * (n - ρ.2.1) + 7; omega⟩) (by omega) (by omega) (fun pl t a0 L g1 g2 g3 g4 g5 g6 => ?_) (fun ρ1 H1 locs1 g1 Y1 hz1 hk1 => ?_)
    · obtain ⟨j1, j2⟩ := sOpens_inl hi1 hi2 g1
      have j1 : ρ.1 ≤ pl := j1.elim (fun z => absurd z.1 h5) id
      exact ⟨g4, Or.inr ⟨pl, a0, L, by simp only [sOne, if_pos hg, g1], rfl, ⟨by omega, j2⟩, g2, g3, g5.mono (by omega) (by omega), g6⟩⟩
    obtain ⟨j1, i1, j3, -⟩ := sOpens_inr hi2 g1
    have i11 := i1.1
    have i12 := i1.2.1
    have hz0 : s.heap.size ≤ H1.size := Y1.2.1.1
    refine lv_aload_n hx hb dX2_one_13 rfl (lv_at hl 0 rfl) ?_
    refine rd_pr X Y1 (x_runV (C := RX2) (As := []) (rest := []) ⟨hx, hb, hml, hown, hts⟩ (hone d' hd' D r tx cB NN tp n ρ1 Nn H1.size hn hN hne i1 (by omega)) (cwV 0 hts (lw_V q608 q610 qs11 q73 q611) rfl rfl rfl (by decide +kernel) ⟨by show fr1 + 1 ≤ fr; omega, by show 8 + (2 + 11) + lo1 ≤ lo; omega⟩) (rp_pre X Y1) rfl rfl hl.1 rfl (lv_room (Nat.le_of_ble_eq_true rfl)) dX2_one_14 ⟨by show 0 + 4 + (5 * (n - ρ1.2.1) + 1) ≤ 5 * (n - ρ.2.1) + 1; omega, by show 0 + 33 + (36 * (n - ρ1.2.1) + 7) ≤ 36 * (n - ρ.2.1) + 7; omega⟩) (by omega) (by omega) (fun pl t a0 L k1 k2 k3 k4 k5 k6 k7 k8 => ?_) (fun cd ρ2 a N1 H2 locs2 k1 k2 k3 k4 Y2 kext kT kz kk => ?_)
    · exact ⟨k6, Or.inr ⟨pl, a0, L, by simp only [sOne, if_pos hg, g1, k1], rfl, ⟨by omega, k3⟩, k4, k5, k7.mono (by omega) (by omega), k8⟩⟩
    · have k31 := k3.1
      have k32 := k3.2.1
      refine lv_astore_n (lv' := [(1, .ref a), (0, .ref r)]) hx hb dX2_one_17 rfl hl (by decide) rfl (fun ls hl => ?_)
      refine lv_aload_n hx hb dX2_one_18 rfl (lv_at hl 1 rfl) ?_
      refine lv_dup hx hb dX2_one_19 rfl ?_
      refine rg_open X Y2 dX2_one_20 ?_
      refine lv_iconst (v := 1) hx hb dX2_one_23 (by decide) ?_
      refine lv_isub hx hb dX2_one_24 ?_
      refine rp_open X Y2 (o := ρ2.2.2.1 - 1) (nI_pr (by omega)) dX2_one_25 (fun H3 locs3 Y3 hz3 hk3 => ?_)
      have hzz3 : s.heap.size ≤ H3.size := Y3.2.1.1
      refine rd_newO X Y3 ⟨by show 0 + 4 + 5 * (ρ2.2.1 - ρ1.2.1) + 1 ≤ 5 * (n - ρ.2.1) + 1; omega, by show 0 + 33 + 36 * (ρ2.2.1 - ρ1.2.1) + 2 ≤ 36 * (n - ρ.2.1) + 7; omega⟩ dX2_one_28 (fun q2 H4 Y4 hU hq2 hN2 hlt2 => ?_)
      refine lv_dup hx hb dX2_one_31 rfl ?_
      refine lv_iconst (v := 0) hx hb dX2_one_32 (by decide) ?_
      refine lv_aload_n hx hb dX2_one_33 rfl (lv_at hl 0 rfl) ?_
      refine rd_initO X Y4 hU hN2 (by omega) (Or.inr rfl) hrs hts9 rfl rfl ⟨by show 2 ≤ fr; omega, by show 35 ≤ lo; omega⟩ ⟨by show 0 + 4 + 5 * (ρ2.2.1 - ρ1.2.1) + 1 ≤ 5 * (n - ρ.2.1) + 1; omega, by show 0 + 33 + 36 * (ρ2.2.1 - ρ1.2.1) + 2 ≤ 36 * (n - ρ.2.1) + 7; omega⟩ hl.1 (Nat.le_of_ble_eq_true rfl) dX2_one_34 (fun H5 locs5 Y5 => ?_)
      exact rd_ret (cd := cd ++ [19]) X Y5 (fun q h => Or.inl (Nat.lt_of_lt_of_le h hz0)) hr0 (by simp only [sOne, if_pos hg, g1, k1]; rfl) (by show ρ.2.1 < ρ2.2.1; omega) k3 (by show ρ2.2.2.1 - 1 = ρ.2.2.1; omega) ((kext.le hz0).trans (nExt.up hN2 (by omega)) (Nat.le_refl _)) (cTr_one hN2 kT (Or.inr ⟨rfl, rfl⟩) (by show ρ2.2.1 - ρ1.2.1 < ρ2.2.1 - ρ.2.1; omega)) (Nat.le_refl _) (by show _ ≤ 5 * (ρ2.2.1 - ρ.2.1); omega) (by show _ ≤ 36 * (ρ2.2.1 - ρ.2.1); omega) (by omega) (by omega) dX2_one_37
  refine lv_aload_n hx hb dX2_one_38 rfl (lv_at hl 0 rfl) ?_
  refine rg_sign X Y dX2_one_39 ?_
  refine lv_bipush (v := 40) hx hb dX2_one_42 (by decide) ?_
  refine lv_icmp_ne (tgt := 86) hx hb dX2_one_44 (by decide) (fun hg2 => ?_) (fun hg2 => ?_)
  rotate_left
  · have hlt : ρ.2.1 < ρ.1 := hi.2.2.1 (Or.inr (Or.inr (by rw [hg2]; decide)))
    refine lv_aload_n hx hb dX2_one_47 rfl (lv_at hl 0 rfl) ?_
    by_cases h5 : ρ.2.2.1 = 5
    · refine rd_nx X Y (x_runV (C := RX2) (As := []) (rest := []) ⟨hx, hb, hml, hown, hts⟩ (tX2_opens5 l D r tx cB NN tp n ρ s.heap.size hn hN hne h5) (cwV 0 hts (lw_V q583 q585 qs8 q73 q586) rfl rfl rfl (by decide +kernel) ⟨by show 7 + 1 ≤ fr; omega, by show 8 + (1 + 11) + 196 ≤ lo; omega⟩) (rd_pre X Y) rfl rfl hl.1 rfl (lv_room (Nat.le_of_ble_eq_true rfl)) dX2_one_48 ⟨by show 0 + 1 ≤ 5 * (n - ρ.2.1) + 1; omega, by show 0 + 7 ≤ 36 * (n - ρ.2.1) + 7; omega⟩) (by omega) (by omega) (fun pl t a0 L g1 g2 g3 g4 g5 g6 => ?_) (fun ρ1 H1 locs1 g1 _ _ _ => by cases g1)
      have g1 := Sum.inl.inj g1
      subst g1
      have hs5 : sOpens tp n ρ = .inl ρ.2.1 := if_pos h5
      exact ⟨g4, Or.inr ⟨_, a0, L, by simp only [sOne, if_neg hg, if_pos hg2, hs5], rfl, ⟨Nat.le_refl _, by omega⟩, g2, g3, g5.mono (by omega) (by omega), g6⟩⟩
    obtain ⟨d', hd'⟩ : ∃ d', d = d' + 1 := ⟨d - 1, by omega⟩
    refine rd_nx X Y (x_runV (C := RX2) (As := []) (rest := []) ⟨hx, hb, hml, hown, hts⟩ (tX2_opens l D r tx cB NN tp n ρ s.heap.size hn hN hi2 hne (by omega)) (cwV 0 hts (lw_V q583 q585 qs8 q73 q586) rfl rfl rfl (by decide +kernel) ⟨by show 7 + 1 ≤ fr; omega, by show 8 + (1 + 11) + 196 ≤ lo; omega⟩) (rd_pre X Y) rfl rfl hl.1 rfl (lv_room (Nat.le_of_ble_eq_true rfl)) dX2_one_48 ⟨by show 0 + 4 ≤ 5 * (n - ρ.2.1) + 1; omega, by show 0 + 33 ≤ 36 * (n - ρ.2.1) + 7; omega⟩) (by omega) (by omega) (fun pl t a0 L g1 g2 g3 g4 g5 g6 => ?_) (fun ρ1 H1 locs1 g1 Y1 hz1 hk1 => ?_)
    · obtain ⟨j1, j2⟩ := sOpens_inl hi1 hi2 g1
      have j1 : ρ.1 ≤ pl := j1.elim (fun z => absurd z.1 h5) id
      exact ⟨g4, Or.inr ⟨pl, a0, L, by simp only [sOne, if_neg hg, if_pos hg2, g1], rfl, ⟨by omega, j2⟩, g2, g3, g5.mono (by omega) (by omega), g6⟩⟩
    obtain ⟨j1, i1, j3, -⟩ := sOpens_inr hi2 g1
    have i11 := i1.1
    have i12 := i1.2.1
    have hz0 : s.heap.size ≤ H1.size := Y1.2.1.1
    refine lv_aload_n hx hb dX2_one_51 rfl (lv_at hl 0 rfl) ?_
    refine rd_pr X Y1 (x_runV (C := RX2) (As := []) (rest := []) ⟨hx, hb, hml, hown, hts⟩ (hei d' hd' D r tx cB NN tp n ρ1 Nn H1.size hn hN hne i1 (by omega)) (cwV 0 hts (lw_V q570 q572 qs5 q73 q573) rfl rfl rfl (by decide +kernel) ⟨by show fr2 + 1 ≤ fr; omega, by show 8 + (2 + 11) + lo2 ≤ lo; omega⟩) (rp_pre X Y1) rfl rfl hl.1 rfl (lv_room (Nat.le_of_ble_eq_true rfl)) dX2_one_52 ⟨by show 0 + 4 + (5 * (n - ρ1.2.1) + 1) ≤ 5 * (n - ρ.2.1) + 1; omega, by show 0 + 33 + (36 * (n - ρ1.2.1) + 7) ≤ 36 * (n - ρ.2.1) + 7; omega⟩) (by omega) (by omega) (fun pl t a0 L k1 k2 k3 k4 k5 k6 k7 k8 => ?_) (fun cd ρ2 a N1 H2 locs2 k1 k2 k3 k4 Y2 kext kT kz kk => ?_)
    · exact ⟨k6, Or.inr ⟨pl, a0, L, by simp only [sOne, if_neg hg, if_pos hg2, g1, k1], rfl, ⟨by omega, k3⟩, k4, k5, k7.mono (by omega) (by omega), k8⟩⟩
    · have k31 := k3.1
      have k32 := k3.2.1
      refine lv_astore_n (lv' := [(1, .ref a), (0, .ref r)]) hx hb dX2_one_55 rfl hl (by decide) rfl (fun ls hl => ?_)
      refine lv_aload_n hx hb dX2_one_56 rfl (lv_at hl 1 rfl) ?_
      refine rg_sign X Y2 dX2_one_57 ?_
      refine lv_bipush (v := 41) hx hb dX2_one_60 (by decide) ?_
      refine lv_icmp_eq (tgt := 70) hx hb dX2_one_62 (by decide) (fun hg3 => ?_) (fun hg3 => ?_)
      · have hlt2 : ρ2.2.1 < ρ2.1 := k3.2.2.1 (Or.inr (Or.inr (by rw [hg3]; decide)))
        refine lv_aload_n hx hb dX2_one_70 rfl (lv_at hl 1 rfl) ?_
        refine lv_dup hx hb dX2_one_71 rfl ?_
        refine rg_open X Y2 dX2_one_72 ?_
        refine lv_iconst (v := 1) hx hb dX2_one_75 (by decide) ?_
        refine lv_isub hx hb dX2_one_76 ?_
        refine rp_open X Y2 (o := ρ2.2.2.1 - 1) (nI_pr (by omega)) dX2_one_77 (fun H3 locs3 Y3 hz3 hk3 => ?_)
        have hzz3 : s.heap.size ≤ H3.size := Y3.2.1.1
        refine lv_aload_n hx hb dX2_one_80 rfl (lv_at hl 1 rfl) ?_
        refine rd_nx X Y3 (x_runV (C := RX2) (As := []) (rest := []) ⟨hx, hb, hml, hown, hts⟩ (tX2_next l D r tx cB NN tp n (opd ρ2) H3.size hn hN k32 hne) (cwV 0 hts (lw_V q252 q254 qs0 q73 q255) rfl rfl rfl (by decide +kernel) ⟨by show 6 + 1 ≤ fr; omega, by show 8 + (2 + 11) + 175 ≤ lo; omega⟩) (rd_pre X Y3) rfl rfl hl.1 rfl (lv_room (Nat.le_of_ble_eq_true rfl)) dX2_one_81 ⟨by show 0 + 4 + 5 * (ρ2.2.1 - ρ1.2.1) + 4 ≤ 5 * (n - ρ.2.1) + 1; omega, by show 0 + 33 + 36 * (ρ2.2.1 - ρ1.2.1) + 33 ≤ 36 * (n - ρ.2.1) + 7; omega⟩) (by omega) (by omega) (fun pl t a0 L f1 f2 f3 f4 f5 f6 => ?_) (fun ρ3 H4 locs4 g7 Y4 hz4 hk4 => ?_)
        · obtain ⟨j1', j2'⟩ := sNext_inl (ρ := opd ρ2) k32 f1
          have j1' : ρ2.1 ≤ pl := j1'
          exact ⟨f4, Or.inr ⟨pl, a0, L, by simp only [sOne, if_neg hg, if_pos hg2, g1, k1, if_pos hg3, f1], rfl, ⟨by omega, j2'⟩, f2, f3, f5.mono (by omega) (by omega), f6⟩⟩
        · obtain ⟨j1', i4, j3'⟩ := sNext_inr (ρ := opd ρ2) k32 g7
          have j1' : ρ2.1 ≤ ρ3.2.1 := j1'
          have j3' : ρ3.2.2.1 = ρ2.2.2.1 - 1 := j3'
          have i41 := i4.1
          have i42 := i4.2.1
          refine lv_aload_n hx hb dX2_one_84 rfl (lv_at hl 0 rfl) ?_
          exact rd_ret X Y4 (fun q h => Nat.lt_of_lt_of_le h hzz3) hr0 (by simp only [sOne, if_neg hg, if_pos hg2, g1, k1, if_pos hg3, g7]) (by omega) i4 (by omega) (kext.le hz0) kT (by omega) (by omega) (by omega) (by omega) (by omega) dX2_one_85
      · refine lv_aload_n hx hb dX2_one_65 rfl (lv_at hl 1 rfl) ?_
        obtain ⟨⟨wv, hP, hw⟩, hS, -⟩ := Y2
        exact rd_throw (A := rA r tx s.heap.size) hx hb hml hown hts hlk hno hK hKc.2.2.1 hP hS (fun q h => Or.inr (Or.inr h)) ⟨by show 6 ≤ fr; omega, by show 125 ≤ lo; omega⟩ ⟨by show 0 + 4 + 5 * (ρ2.2.1 - ρ1.2.1) + 1 ≤ 5 * (n - ρ.2.1) + 1; omega, by show 0 + 33 + 36 * (ρ2.2.1 - ρ1.2.1) + 7 ≤ 36 * (n - ρ.2.1) + 7; omega⟩ (by omega) (by omega) hl.1 dX2_one_66 dX2_one_69 (fun t a L h1 h2 h3 h4 h5 => ⟨h3, Or.inr ⟨ρ2.2.1, a, L, by simp only [sOne, if_neg hg, if_pos hg2, g1, k1, if_neg hg3], rfl, ⟨by omega, by omega⟩, h1, h2, h4.mono (by omega) (by omega), h5⟩⟩)
  refine lv_aload_n hx hb dX2_one_86 rfl (lv_at hl 0 rfl) ?_
  refine rg_number X Y dX2_one_87 ?_
  refine lv_iconst (v := -1) hx hb dX2_one_90 (by decide) ?_
  refine lv_icmp_eq (tgt := 113) hx hb dX2_one_91 (by decide) (fun hnu => ?_) (fun hnu => ?_)
  rotate_left
  · have hlt : ρ.2.1 < ρ.1 := hi.2.2.1 (Or.inr (Or.inl hnu))
    refine lv_aload_n hx hb dX2_one_94 rfl (lv_at hl 0 rfl) ?_
    refine rg_number X Y dX2_one_95 ?_
    refine lv_istore_n (lv' := [(1, .int ρ.2.2.2.2.1), (0, .ref r)]) hx hb dX2_one_98 rfl hl (by decide) rfl (fun ls hl => ?_)
    refine lv_aload_n hx hb dX2_one_99 rfl (lv_at hl 1 rfl) ?_
    refine rd_nx X Y (x_runV (C := RX2) (As := []) (rest := []) ⟨hx, hb, hml, hown, hts⟩ (tX2_next l D r tx cB NN tp n ρ s.heap.size hn hN hi2 hne) (cwV 0 hts (lw_V q252 q254 qs0 q73 q255) rfl rfl rfl (by decide +kernel) ⟨by show 6 + 1 ≤ fr; omega, by show 8 + (2 + 11) + 175 ≤ lo; omega⟩) (rd_pre X Y) rfl rfl hl.1 rfl (lv_room (Nat.le_of_ble_eq_true rfl)) dX2_one_100 ⟨by show 0 + 4 ≤ 5 * (n - ρ.2.1) + 1; omega, by show 0 + 33 ≤ 36 * (n - ρ.2.1) + 7; omega⟩) (by omega) (by omega) (fun pl t a0 L g1 g2 g3 g4 g5 g6 => ?_) (fun ρ1 H1 locs1 g1 Y1 hz1 hk1 => ?_)
    · obtain ⟨j1, j2⟩ := sNext_inl hi2 g1
      exact ⟨g4, Or.inr ⟨pl, a0, L, by simp only [sOne, if_neg hg, if_neg hg2, if_pos hnu, g1], rfl, ⟨by omega, j2⟩, g2, g3, g5.mono (by omega) (by omega), g6⟩⟩
    · obtain ⟨j1, i1, j3⟩ := sNext_inr hi2 g1
      have i11 := i1.1
      have i12 := i1.2.1
      have hz0 : s.heap.size ≤ H1.size := Y1.2.1.1
      refine rd_newL X Y1 ⟨by show 0 + 4 + 1 ≤ 5 * (n - ρ.2.1) + 1; omega, by show 0 + 33 + 2 ≤ 36 * (n - ρ.2.1) + 7; omega⟩ dX2_one_103 (fun q2 H2 Y2 hU hq2 hN2 hlt2 => ?_)
      refine lv_dup hx hb dX2_one_106 rfl ?_
      refine lv_iload_n hx hb dX2_one_107 rfl (lv_at hl 0 rfl) ?_
      refine lv_iconst (v := -1) hx hb dX2_one_108 (by decide) ?_
      refine rd_initL X Y2 hU hN2 (by omega) (Or.inr rfl) hrs hts9 ⟨by show 2 ≤ fr; omega, by show 35 ≤ lo; omega⟩ ⟨by show 0 + 4 + 1 ≤ 5 * (n - ρ.2.1) + 1; omega, by show 0 + 33 + 2 ≤ 36 * (n - ρ.2.1) + 7; omega⟩ hl.1 (Nat.le_of_ble_eq_true rfl) dX2_one_109 (fun H3 locs3 Y3 => ?_)
      have hb9 := hi.2.2.2.resolve_left hnu
      exact rd_ret (cd := [100000 + ρ.2.2.2.2.1]) (dd := 1) X Y3 (fun q h => Or.inl h) hr0 (by simp only [sOne, if_neg hg, if_neg hg2, if_pos hnu, g1]) (by omega) i1 j3 (nExt.up hN2 (by omega)) (Or.inl ⟨ρ.2.2.2.2.1, -1, nUp_at, Or.inl ⟨rfl, hb9.1, hb9.2, rfl⟩⟩) (by omega) (by omega) (by omega) (by omega) (by omega) dX2_one_112
  obtain ⟨ta, nad, hz1, hT1, hs1⟩ := hKc.2.2.2.2.2.2.2.1
  have hnl := hKc.1.2.2.1
  have hnw : ∀ k, k < 6 → (nmB k).length < 2 ^ 31 := fun k hk => by rcases (show k = 0 ∨ k = 1 ∨ k = 2 ∨ k = 3 ∨ k = 4 ∨ k = 5 by omega) with h | h | h | h | h | h <;> subst h <;> decide
  refine lv_iconst (v := 0) hx hb dX2_one_113 (by decide) ?_
  refine lv_istore_n (lv' := [(1, .int 0), (0, .ref r)]) hx hb dX2_one_114 rfl hl (by decide) rfl (fun ls hl => ?_)
  have LN : ∀ (f k : Nat) (ls : Array Slot) (σ : pRes), k + f = 6 → lv_has ls 2 [(1, .int (nI k)), (0, .ref r)] → σ = (match nmI ρ.2.2.2.1 f k with | none => .inl ρ.2.1 | some k => match sNext tp n ρ with | .inl p => .inl p | .inr ρ1 => .inr ([nI k], ρ1)) → W p l e { frames := fr, cells := 5 * (n - ρ.2.1) + 1, slots := 36 * (n - ρ.2.1) + 7, locals := lo } s m args below meth c s.heap [] 0 0 (xMQ below (prQ D r tx cB NN tp n s.heap.size ρ Nn σ) args s (5 * (n - ρ.2.1) + 1) (36 * (n - ρ.2.1) + 7) (rA r tx s.heap.size)) (F0 m 115 ls []) := by
    intro f
    induction f with
    | zero =>
      intro k ls σ hk hl eσ
      have hk : k = 6 := by omega
      subst hk
      refine lv_iload_n hx hb dX2_one_115 rfl (lv_at hl 0 rfl) ?_
      refine va_getsN hx hb hz1 Y.2.1 hown (va_Nw.use rfl hnl) (fun _ h9 => h9) dX2_one_116 ?_
      refine va_tlen hx hb hT1 Y.2.1 (v := 6) (by decide) dX2_one_119 ?_
      refine lv_icmp_ge (tgt := 158) hx hb dX2_one_120 (by decide) (fun _ => ?_) (fun h9 => absurd (by decide) h9)
      refine lv_aload_n hx hb dX2_one_158 rfl (lv_at hl 1 rfl) ?_
      obtain ⟨⟨wv, hP, hw⟩, hS, -⟩ := Y
      exact rd_throw (A := rA r tx s.heap.size) hx hb hml hown hts hlk hno hK hKc.2.2.1 hP hS (fun q h => Or.inr (Or.inr h)) ⟨by show 6 ≤ fr; omega, by show 125 ≤ lo; omega⟩ ⟨by show 0 + 1 ≤ 5 * (n - ρ.2.1) + 1; omega, by show 0 + 7 ≤ 36 * (n - ρ.2.1) + 7; omega⟩ (by omega) (by omega) hl.1 dX2_one_159 dX2_one_162 (fun t a L h1 h2 h3 h4 h5 => ⟨h3, Or.inr ⟨ρ.2.1, a, L, eσ, rfl, ⟨Nat.le_refl _, by omega⟩, h1, h2, h4.mono (by omega) (by omega), h5⟩⟩)
    | succ f ih =>
      intro k ls σ hk hl eσ
      have hk6 : k < 6 := by omega
      refine lv_iload_n hx hb dX2_one_115 rfl (lv_at hl 0 rfl) ?_
      refine va_getsN hx hb hz1 Y.2.1 hown (va_Nw.use rfl hnl) (fun _ h9 => h9) dX2_one_116 ?_
      refine va_tlen hx hb hT1 Y.2.1 (v := nI 6) rfl dX2_one_119 ?_
      refine lv_icmp_ge (tgt := 158) hx hb dX2_one_120 (by decide) (fun h9 => absurd h9 (nI_ge hk6 (by decide))) (fun _ => ?_)
      refine lv_aload_n hx hb dX2_one_123 rfl (lv_at hl 1 rfl) ?_
      refine va_getsN hx hb hz1 Y.2.1 hown (va_Nw.use rfl hnl) (fun _ h9 => h9) dX2_one_124 ?_
      refine lv_iload_n hx hb dX2_one_127 rfl (lv_at hl 0 rfl) ?_
      refine vb_tq hx hb hT1 Y.2.1 (v := .ref (nad k)) (nI_in hk6 (by decide)) (by rw [nI_clamp (by omega)]) dX2_one_128 ?_
      refine rd_is X Y (hs1 k hk6) (hnw k hk6) ⟨by show 3 ≤ fr; omega, by show 66 ≤ lo; omega⟩ ⟨by show 0 ≤ 5 * (n - ρ.2.1) + 1; omega, by show 0 ≤ 36 * (n - ρ.2.1) + 7; omega⟩ hl.1 (Nat.le_of_ble_eq_true rfl) dX2_one_129 ?_
      by_cases hw : ρ.2.2.2.1 = some (nmB k)
      · have hlt : ρ.2.1 < ρ.1 := hi.2.2.1 (Or.inl (by rw [hw]; exact fun z => by cases z))
        have hv : isV ρ.2.2.2.1 (nmB k) = 1 := if_pos hw
        have hnm : nmI ρ.2.2.2.1 (f + 1) k = some k := if_pos hw
        rw [hnm] at eσ
        rw [hv]
        refine lv_if_ne (tgt := 138) hx hb dX2_one_132 (by decide) (fun _ => ?_) (fun h9 => absurd h9 (by decide))
        refine lv_aload_n hx hb dX2_one_138 rfl (lv_at hl 1 rfl) ?_
        refine rd_nx X Y (x_runV (C := RX2) (As := []) (rest := []) ⟨hx, hb, hml, hown, hts⟩ (tX2_next l D r tx cB NN tp n ρ s.heap.size hn hN hi2 hne) (cwV 0 hts (lw_V q252 q254 qs0 q73 q255) rfl rfl rfl (by decide +kernel) ⟨by show 6 + 1 ≤ fr; omega, by show 8 + (2 + 11) + 175 ≤ lo; omega⟩) (rd_pre X Y) rfl rfl hl.1 rfl (lv_room (Nat.le_of_ble_eq_true rfl)) dX2_one_139 ⟨by show 0 + 4 ≤ 5 * (n - ρ.2.1) + 1; omega, by show 0 + 33 ≤ 36 * (n - ρ.2.1) + 7; omega⟩) (by omega) (by omega) (fun pl t a0 L g1 g2 g3 g4 g5 g6 => ?_) (fun ρ1 H1 locs1 g1 Y1 hz1 hk1 => ?_)
        · obtain ⟨j1, j2⟩ := sNext_inl hi2 g1
          exact ⟨g4, Or.inr ⟨pl, a0, L, by rw [eσ]; simp only [g1], rfl, ⟨by omega, j2⟩, g2, g3, g5.mono (by omega) (by omega), g6⟩⟩
        · obtain ⟨j1, i1, j3⟩ := sNext_inr hi2 g1
          have i11 := i1.1
          have i12 := i1.2.1
          have hz0 : s.heap.size ≤ H1.size := Y1.2.1.1
          refine rd_newL X Y1 ⟨by show 0 + 4 + 1 ≤ 5 * (n - ρ.2.1) + 1; omega, by show 0 + 33 + 2 ≤ 36 * (n - ρ.2.1) + 7; omega⟩ dX2_one_142 (fun q2 H2 Y2 hU hq2 hN2 hlt2 => ?_)
          refine lv_dup hx hb dX2_one_145 rfl ?_
          refine lv_iconst (v := 0) hx hb dX2_one_146 (by decide) ?_
          refine lv_iload_n hx hb dX2_one_147 rfl (lv_at hl 0 rfl) ?_
          refine rd_initL X Y2 hU hN2 (by omega) (Or.inr rfl) hrs hts9 ⟨by show 2 ≤ fr; omega, by show 35 ≤ lo; omega⟩ ⟨by show 0 + 4 + 1 ≤ 5 * (n - ρ.2.1) + 1; omega, by show 0 + 33 + 2 ≤ 36 * (n - ρ.2.1) + 7; omega⟩ hl.1 (Nat.le_of_ble_eq_true rfl) dX2_one_148 (fun H3 locs3 Y3 => ?_)
          exact rd_ret (cd := [nI k]) (dd := 1) X Y3 (fun q h => Or.inl h) hr0 (by rw [eσ]; simp only [g1]) (by omega) i1 j3 (nExt.up hN2 (by omega)) (Or.inl ⟨0, nI k, nUp_at, Or.inr ⟨nI_pos' (by omega), nI_le (b := 5) (by omega) (by decide), rfl⟩⟩) (by omega) (by omega) (by omega) (by omega) (by omega) dX2_one_151
      · have hv : isV ρ.2.2.2.1 (nmB k) = 0 := if_neg hw
        have hnm : nmI ρ.2.2.2.1 (f + 1) k = nmI ρ.2.2.2.1 f (k + 1) := if_neg hw
        rw [hnm] at eσ
        rw [hv]
        refine lv_if_ne (tgt := 138) hx hb dX2_one_132 (by decide) (fun h9 => absurd rfl h9) (fun _ => ?_)
        refine lv_goto (tgt := 152) hx hb dX2_one_135 (by decide) ?_
        refine lv_iinc (v := nI k + 1) (lv' := [(1, .int (nI k + 1)), (0, .ref r)]) hx hb dX2_one_152 hl (k := 0) rfl rfl (by decide) rfl (fun ls hl => ?_)
        refine lv_goto (tgt := 115) hx hb dX2_one_155 (by decide) ?_
        exact ih (k + 1) ls σ (by omega) (by rw [← nI_1]; exact hl) eσ
  exact LN 6 0 ls _ rfl (by rw [nI_0]; exact hl) (by simp only [sOne, if_neg hg, if_neg hg2, if_neg (fun z => z hnu : ¬ ¬ ρ.2.2.2.2.1 = -1)]; rfl)
theorem levs (l : Launch) : ∀ d : Nat, pMet l yX2_one cX2_one 2 (7 * d + 10) (160 * d + 240) d (fun tp n => (lev tp n (d + 1)).1) ∧ pMet l yX2_not cX2_not 3 (7 * d + 13) (160 * d + 306) d (fun tp n => (lev tp n (d + 1)).2.1) ∧ pMet l yX2_either cX2_either 2 (7 * d + 15) (160 * d + 350) d (fun tp n => (lev tp n (d + 1)).2.2) := by
  intro d
  induction d with
  | zero =>
    have h1 := tX2_one l 0 (7 * 0 + 10) (160 * 0 + 240) 0 0 0 0 (fun tp n => (lev tp n 0).1) (fun tp n => (lev tp n 0).2.2) (fun d' h => by omega) (fun d' h => by omega) ⟨by omega, by omega, by omega⟩ ⟨by omega, by omega, by omega⟩
    have h2 := tX2_term l 0 _ _ _ h1 (by omega) (by omega)
    have h3 := tX2_sum l 0 _ _ _ h2 (by omega) (by omega)
    have h4 := tX2_not l 0 (7 * 0 + 13) (160 * 0 + 306) 0 0 _ _ (fun tp n => (lev tp n 0).2.1) _ (fun d' h => by omega) h3 ⟨by omega, by omega, by omega⟩ ⟨by omega, by omega, by omega⟩
    have h5 := tX2_both l 0 _ _ _ h4 (by omega) (by omega)
    have h6 := tX2_either l 0 _ _ _ h5 (by omega) (by omega)
    exact ⟨h1, h4, h6⟩
  | succ d ih =>
    have h1 := tX2_one l (d + 1) (7 * (d + 1) + 10) (160 * (d + 1) + 240) _ _ _ _ _ _ (fun d' h => by cases h; exact ih.1) (fun d' h => by cases h; exact ih.2.2) ⟨by omega, by omega, by omega⟩ ⟨by omega, by omega, by omega⟩
    have h2 := tX2_term l (d + 1) _ _ _ h1 (by omega) (by omega)
    have h3 := tX2_sum l (d + 1) _ _ _ h2 (by omega) (by omega)
    have h4 := tX2_not l (d + 1) (7 * (d + 1) + 13) (160 * (d + 1) + 306) _ _ _ _ _ _ (fun d' h => by cases h; exact ih.2.1) h3 ⟨by omega, by omega, by omega⟩ ⟨by omega, by omega, by omega⟩
    have h5 := tX2_both l (d + 1) _ _ _ h4 (by omega) (by omega)
    have h6 := tX2_either l (d + 1) _ _ _ h5 (by omega) (by omega)
    exact ⟨h1, h4, h6⟩
