/-! ===== the world with a new trial; trial ===== -/
set_option maxRecDepth 100000
def nwF (F : tF) (i : Nat) (num : Int32) : tF := upd (upd F (wo i) num) (wa i) 0
def nwA (Ar : tA) (i : Nat) : tA := aput Ar (wa i) (fun _ => 0)
def nwAd (ad : Nat → Nat) (i a b : Nat) : Nat → Nat := va_up (va_up ad (wo i) a) (wa i) b
theorem wo_ne_wa (i : Nat) : wo i ≠ wa i := by
  show 100 + 2 * i ≠ 101 + 2 * i
  omega
theorem nwAd_o {ad : Nat → Nat} {i a b : Nat} : nwAd ad i a b (wo i) = a := by simp [nwAd, va_up, wo_ne_wa]
theorem nwAd_a {ad : Nat → Nat} {i a b : Nat} : nwAd ad i a b (wa i) = b := by simp [nwAd, va_up]
theorem nwAd_n {ad : Nat → Nat} {i a b k : Nat} (h1 : k ≠ wo i) (h2 : k ≠ wa i) : nwAd ad i a b k = ad k := by simp [nwAd, va_up, h1, h2]
theorem cTr_ad {N : Nat → Option va_E} {ad ad1 : Nat → Nat} (h : ∀ k, ad1 (200 + k) = ad (200 + k)) : ∀ (n k : Nat) (c : List Int32), cTr N ad n k c → cTr N ad1 n k c
  | 0, _, _, q => q.elim
  | n + 1, k, c, q => by
    rcases q with ⟨v, nm, h1, h2⟩ | ⟨b, k1, c1, h1, h2, h3⟩ | ⟨sg, op, k1, k2, c1, c2, h1, h2, h3, ho, hc⟩
    · exact Or.inl ⟨v, nm, h1, h2⟩
    · exact Or.inr (Or.inl ⟨b, k1, c1, by rw [h]; exact h1, cTr_ad h n k1 c1 h2, h3⟩)
    · exact Or.inr (Or.inr ⟨sg, op, k1, k2, c1, c2, by rw [h, h]; exact h1, cTr_ad h n k1 c1 h2, cTr_ad h n k2 c2 h3, ho, hc⟩)
theorem cTx_ad {G ad ad1 : Nat → Nat} {U : tU} {T : tT} {F F1 : tF} (h : ∀ k, ad1 (200 + k) = ad (200 + k)) (h28 : F1 28 = F 28) (q : cTx G ad U T F) : cTx G ad1 U T F1 := by
  intro j hj
  rw [h28] at hj
  obtain ⟨t, k0, k1, h1, h2, h3, h4⟩ := q j hj
  exact ⟨t, k0, k1, h1, by rw [h, h]; exact h2, cTr_ad h 200 k0 _ h3, cTr_ad h 200 k1 _ h4⟩
theorem cE_grown {G ad : Nat → Nat} {F : tF} {Ar : tA} {Kd : tK} {U : tU} {i kd a b : Nat} {num : Int32} (hi : i = 8 + kd) (hkd : kd < 6) (hKi : Kd i = none) (hsz : (F 32).toNatClampNeg ≤ 8) :
    gw_set (gw_set (gw_set (cE G ad F Ar Kd U) (wo i) (.inr (2 + kd, [.int num, .ref b, .int 0]))) (wa i) (.inl (G 1, 16, .inl (fun _ => 0)))) 19 (.inl (G 2, 6, .inr (.inr (.inr (.inr (va_up (fun j => if (Kd (8 + j)).isSome = true then some (ad (wo (8 + j))) else none) kd (some a))))))) = cE G (nwAd ad i a b) (nwF F i num) (nwA Ar i) (va_up Kd i (some kd)) U := by
  have h14 : i < 14 := by omega
  have hK1 : va_up Kd i (some kd) i = some kd := by simp [va_up]
  have w19 : wo i ≠ 19 := by show 100 + 2 * i ≠ 19; omega
  have a19 : wa i ≠ 19 := by show 101 + 2 * i ≠ 19; omega
  funext k
  by_cases e19 : k = 19
  · subst e19
    have e : (va_up (fun j => if (Kd (8 + j)).isSome = true then some (ad (wo (8 + j))) else none) kd (some a)) = (fun j => if (va_up Kd i (some kd) (8 + j)).isSome = true then some (nwAd ad i a b (wo (8 + j))) else none) := by
      funext j
      by_cases ej : j = kd
      · subst ej
        rw [← hi, hK1, nwAd_o]
        simp [va_up]
      · have e1 : va_up Kd i (some kd) (8 + j) = Kd (8 + j) := by simp [va_up]; omega
        have e2 : nwAd ad i a b (wo (8 + j)) = ad (wo (8 + j)) := nwAd_n (by show 100 + 2 * (8 + j) ≠ 100 + 2 * i; omega) (by show 100 + 2 * (8 + j) ≠ 101 + 2 * i; omega)
        rw [e1, e2]
        simp [va_up, ej]
    rw [e]
    simp only [gw_set, if_true]
    rfl
  by_cases eo : k = wo i
  · subst eo
    rw [cE_way h14 hK1, nwAd_a]
    have e1 : nwF F i num (wo i) = num := by simp [nwF, upd, wo_ne_wa]
    have e2 : nwF F i num (wa i) = 0 := by simp [nwF, upd]
    rw [e1, e2]
    simp [gw_set, w19, wo_ne_wa]
  by_cases ea : k = wa i
  · subst ea
    rw [cE_of (cArr_wa h14 (by rw [hK1]; exact fun z => by cases z))]
    have e1 : nwA Ar i (wa i) = fun _ => 0 := by simp [nwA, aput]
    rw [e1]
    simp [gw_set, a19]
  · simp only [gw_set, if_neg e19, if_neg eo, if_neg ea]
    exact (cE_new (by omega) h14 hKi (fun q h1 h2 => nwAd_n h1 h2) (fun q h1 h2 => by simp [nwF, upd, h1, h2]) (fun q h1 => by simp [nwA, aput, h1]) (fun q h1 => by simp [va_up, h1]) eo ea e19).symm
theorem cWf_new {F F1 : tF} {Kd : tK} {i kd : Nat} (h : cWf F Kd) (h32 : F1 32 = F 32) (hi : i = 8 + kd) (hkd : kd < 6) : cWf F1 (va_up Kd i (some kd)) := by
  obtain ⟨h1, h2, h3, h4⟩ := h
  refine ⟨by rw [h32]; exact h1, by rw [h32]; exact h2, fun j hj => ?_, fun j k hk => ?_⟩
  · rw [h32] at hj
    have : va_up Kd i (some kd) j = Kd j := by simp [va_up]; omega
    rw [this]
    exact h3 j hj
  · by_cases e : j = i
    · subst e
      simp [va_up] at hk
      omega
    · simp [va_up, e] at hk
      exact h4 j k hk
section TRI
variable {p : Program} {l : Launch} {e : Env} {R : Room} {s : State} {m : MethodId} {args : Array Value} {below : List Frame} {meth : Method} {c : Code} {H : Heap} {locs : List Loc} {cells slots : Nat} {Q : State → Prop}
variable {cc : ByteArray} {nL pc : Nat} {ls : Array Slot} {rest : List Value} {D : va_G} {cl : List vw_C} {A : Nat → Prop} {G ad : Nat → Nat} {E : Nat → Option va_E} {tys : List (ClassId × FieldType)} {H0 : Heap}
theorem gw_aast (hexec : p.tables.exec = Jvm.exec) (hb : c.code = cc) (hK : va_K D cl tys s) (hP : gw_P D cl ad E H) (hD : gw_D A ad E) (hS : va_S A H0 H locs) {q0 : Nat} (t0 : Nat) {C : String} {cA : ClassId} {n v : Nat} {f : Nat → Option Nat} (ha : E q0 = some (.inl (cA, n, .inr (.inr (.inr (.inr f)))))) (ht : tys[t0]? = some (cA, .object C)) (hr : va_Any C s H v) {i : Int32} (hin : vp_in i n) (hdg : decode cc pc = .ok (.aastore, 1))
    (kk : ∀ (H1 : Heap) (locs1 : List Loc), gw_P D cl ad (gw_set E q0 (.inl (cA, n, .inr (.inr (.inr (.inr (va_up f i.toNatClampNeg (some v)))))))) H1 → gw_D A ad (gw_set E q0 (.inl (cA, n, .inr (.inr (.inr (.inr (va_up f i.toNatClampNeg (some v)))))))) → va_S A H0 H1 locs1 → H1.size = H.size → W p l e R s m args below meth c H1 locs1 cells slots Q (F0 m (pc + 1) ls rest)) : W p l e R s m args below meth c H locs cells slots Q (F0 m pc ls (.ref v :: .int i :: .ref (ad q0) :: rest)) := by
  have hlt : i.toNatClampNeg < n := Nat.not_le.mp fun q => hin (Or.inr q)
  have h0 : ¬ i < 0 := fun q => hin (Or.inl q)
  obtain ⟨cellV, g1, g3, ⟨kC, hkC⟩, hasg⟩ := hr
  obtain ⟨kA, comp, k1, k2, k3, -⟩ := (hK.2 t0 _ ht).2
  obtain ⟨kE, hkE, -⟩ := Vm.findClass_spec k3
  refine W.aast hexec hb (hP q0 _ ha) (fun q h => by cases h) (fun h => by cases h) k1 k2 rfl hkE ⟨h0, by show _ < (arrV _ _ _).slots.size; rw [arrV_size]; exact hlt⟩ g1 (fun q h => by rw [h] at g3; cases g3) hkC (hasg _ k3) rfl rfl hdg fun H1 e z oq => ?_
  refine kk H1 _ (hP.set hD ha ?_ oq) (hD.set ha) (hS.put z oq (hD.2 q0 (by rw [ha]; exact fun z => by cases z))) z
  show H1[ad q0]? = some (vp_cell _ _)
  rw [e]
  rw [vp_cell_q, vp_cell_q, arrV_store]
  congr 2
  funext q
  by_cases hq : q = i.toNatClampNeg
  · subst hq
    simp [updV, va_up, va_rf]
  · simp [updV, va_up, hq]
end TRI
/-- a way is a Way -/
theorem way_any {D : va_G} {tys : List (ClassId × FieldType)} {s : State} {H : Heap} {a kd : Nat} {fs : List Value} (hK : va_K D vcl tys s) (hN : cNw s) (hkd : kd < 6) (h : va_at D vcl (a, .inr (2 + kd, fs)) H) : va_Any "GateRoad$Way" s H a := by
  have hP : va_P D vcl [(a, .inr (2 + kd, fs))] H := by
    intro k q hq
    match k, hq with
    | 0, hq => cases hq; exact h
  have go : ∀ (C : String) (T : u_T) (N : Nat), vcl[2 + kd]? = some (C, T, N) → (∀ comp c0 : ClassId, s.vm.findClass "GateRoad$Way" = some comp → s.vm.findClass C = some c0 → s.vm.assignable c0 comp = true) → va_Any "GateRoad$Way" s H a := by
    intro C T N hc hasg
    obtain ⟨cell, g1, g2, g3⟩ := va_recv hK hP (ci := 2 + kd) (q0 := 0) hc rfl
    obtain ⟨hfc, kB, hkB, -⟩ := (hK.1 (2 + kd) _ hc).2
    have e9 : cell.cls = _ := Option.some.inj (g3.symm.trans hfc)
    exact ⟨cell, g1, g2, ⟨kB, by rw [e9]; exact hkB⟩, fun comp hcomp => hasg comp _ hcomp g3⟩
  rcases lt6 hkd with h | h | h | h | h | h <;> subst h
  · exact go _ _ _ rfl (fun comp c0 h1 h2 => by cases h1.symm.trans h2; exact va_assign (hK.1 2 _ rfl).2 |> fun z => by have := (hK.1 2 _ rfl).2.1; cases h1.symm.trans this; exact z)
  · exact go _ _ _ rfl (vb_asgC (C := "GateRoad$Tolled") (hN.1 _ _ (by decide)))
  · exact go _ _ _ rfl (vb_asgC (C := "GateRoad$Numbered") (hN.1 _ _ (by decide)))
  · exact go _ _ _ rfl (vb_asgC (C := "GateRoad$Drawn") (hN.1 _ _ (by decide)))
  · exact go _ _ _ rfl (vb_asgC (C := "GateRoad$Last") (hN.1 _ _ (by decide)))
  · exact go _ _ _ rfl (vb_asgC (C := "GateRoad$Sorted") (hN.1 _ _ (by decide)))
