/-! ===== a new way in the class's world ===== -/
set_option maxRecDepth 100000
theorem gw_P.grow {D : va_G} {cl : List vw_C} {ad : Nat → Nat} {E : Nat → Option va_E} {H H1 : Heap} {k a : Nat} {x : va_E} (h : gw_P D cl ad E H) (he : E k = none) (oq : ∀ q : Nat, q < H.size → H1[q]? = H[q]?) (h1 : va_at D cl (a, x) H1) : gw_P D cl (va_up ad k a) (gw_set E k x) H1 := by
  intro j y hj
  unfold gw_set at hj
  by_cases e : j = k
  · subst e
    rw [if_pos rfl] at hj
    cases hj
    have : va_up ad j a j = a := by simp [va_up]
    rw [this]
    exact h1
  · rw [if_neg e] at hj
    have : va_up ad k a j = ad j := by simp [va_up, e]
    rw [this]
    exact (h j y hj).kept (oq _ (h j y hj).lt)
theorem gw_D.grow {A : Nat → Prop} {ad : Nat → Nat} {E : Nat → Option va_E} {k a : Nat} {x : va_E} (hD : gw_D A ad E) (hA : A a) (hf : ∀ j, E j ≠ none → ad j ≠ a) : gw_D A (va_up ad k a) (gw_set E k x) := by
  refine ⟨fun i j hi hj hij => ?_, fun j hj => ?_⟩
  · by_cases ei : i = k
    · by_cases ej : j = k
      · rw [ei, ej]
      · simp only [gw_set, if_neg ej] at hj
        simp only [va_up, if_pos ei, if_neg ej] at hij
        exact absurd hij.symm (hf j hj)
    · by_cases ej : j = k
      · simp only [gw_set, if_neg ei] at hi
        simp only [va_up, if_neg ei, if_pos ej] at hij
        exact absurd hij (hf i hi)
      · simp only [gw_set, if_neg ei, if_neg ej] at hi hj
        simp only [va_up, if_neg ei, if_neg ej] at hij
        exact hD.1 i j hi hj hij
  · by_cases ej : j = k
    · simp only [va_up, if_pos ej]
      exact hA
    · simp only [gw_set, if_neg ej] at hj
      simp only [va_up, if_neg ej]
      exact hD.2 j hj
/-- the world's cells but the new way's and the row of trials don't see a new way -/
theorem cE_new {G ad ad1 : Nat → Nat} {F F1 : tF} {Ar Ar1 : tA} {Kd Kd1 : tK} {U : tU} {i : Nat} (hi : (F 32).toNatClampNeg ≤ i) (hi2 : i < 14) (hKi : Kd i = none) (had : ∀ k, k ≠ wo i → k ≠ wa i → ad1 k = ad k) (hF : ∀ k, k ≠ wo i → k ≠ wa i → F1 k = F k) (hAr : ∀ k, k ≠ wa i → Ar1 k = Ar k) (hKd : ∀ k, k ≠ i → Kd1 k = Kd k) {k : Nat} (h1 : k ≠ wo i) (h2 : k ≠ wa i) (h3 : k ≠ 19) : cE G ad1 F1 Ar1 Kd1 U k = cE G ad F Ar Kd U k := by
  have n1 : ∀ q, q < 100 → ad1 q = ad q := fun q hq => had q (by show q ≠ 100 + 2 * i; omega) (by show q ≠ 101 + 2 * i; omega)
  have n2 : ∀ q, q < 100 → F1 q = F q := fun q hq => hF q (by show q ≠ 100 + 2 * i; omega) (by show q ≠ 101 + 2 * i; omega)
  have hA : cArr Kd1 k = cArr Kd k := by
    unfold cArr
    by_cases a1 : k < 100
    · simp [a1]
    by_cases a2 : k < 128
    · by_cases a3 : k % 2 = 1
      · rw [if_neg a1, if_pos a2, if_pos a3, if_neg a1, if_pos a2, if_pos a3, hKd _ (by intro z; apply h2; show k = 101 + 2 * i; omega)]
      · simp [a1, a2, a3]
    · simp [a1, a2]
  unfold cE
  rw [hA]
  cases cArr Kd k with
  | some q => rw [hAr k h2]
  | none =>
    simp only
    unfold cOb
    by_cases e0 : k = 0
    · simp only [e0, if_true]
      congr 3
      unfold cFs
      apply List.map_congr_left
      intro j hj
      have hj := List.mem_range.mp hj
      unfold cFld
      rw [n2 j (by omega), n1 (j + 1) (by omega)]
    by_cases e9 : k = 9
    · simp [e9, n1 33, n2 32, n2 33]
    have n3 : ∀ q, 128 ≤ q → ad1 q = ad q := fun q hq => had q (by show q ≠ 100 + 2 * i; omega) (by show q ≠ 101 + 2 * i; omega)
    by_cases e28 : k = 28
    · have e : (fun j => Option.map (fun t => ad1 (200 + t)) (U.2 j)) = (fun j => Option.map (fun t => ad (200 + t)) (U.2 j)) := by
        funext j
        cases U.2 j with
        | none => rfl
        | some t =>
          show some (ad1 (200 + t)) = some (ad (200 + t))
          rw [n3 _ (by omega)]
      subst e28
      show some (Sum.inl (G 3, 6, Sum.inr (Sum.inr (Sum.inr (Sum.inr (fun j => Option.map (fun t => ad1 (200 + t)) (U.2 j))))))) = some (Sum.inl (G 3, 6, Sum.inr (Sum.inr (Sum.inr (Sum.inr (fun j => Option.map (fun t => ad (200 + t)) (U.2 j)))))))
      rw [e]
    by_cases e32 : k = 32
    · have e : (fun j => if j < 4 then some (ad1 (40 + j)) else none) = (fun j => if j < 4 then some (ad (40 + j)) else none) := by
        funext j
        by_cases hj : j < 4
        · simp [hj, n1 (40 + j) (by omega)]
        · simp [hj]
      subst e32
      show some (Sum.inl (G 4, 4, Sum.inr (Sum.inr (Sum.inr (Sum.inr (fun j => if j < 4 then some (ad1 (40 + j)) else none)))))) = some (Sum.inl (G 4, 4, Sum.inr (Sum.inr (Sum.inr (Sum.inr (fun j => if j < 4 then some (ad (40 + j)) else none))))))
      rw [e]
    by_cases e33 : k = 33
    · have e : (fun j => if j < (F 32).toNatClampNeg then some (ad1 (wo j)) else none) = (fun j => if j < (F 32).toNatClampNeg then some (ad (wo j)) else none) := by
        funext j
        by_cases hj : j < (F 32).toNatClampNeg
        · simp only [hj, if_true]
          rw [had (wo j) (by show 100 + 2 * j ≠ 100 + 2 * i; omega) (by show 100 + 2 * j ≠ 101 + 2 * i; omega)]
        · simp [hj]
      subst e33
      show (if F1 32 = 0 then none else some (Sum.inl (G 5, 10, Sum.inr (Sum.inr (Sum.inr (Sum.inr (fun j => if j < (F1 32).toNatClampNeg then some (ad1 (wo j)) else none))))))) = (if F 32 = 0 then none else some (Sum.inl (G 5, 10, Sum.inr (Sum.inr (Sum.inr (Sum.inr (fun j => if j < (F 32).toNatClampNeg then some (ad (wo j)) else none)))))))
      rw [n2 32 (by omega), e]
    by_cases e40 : 40 ≤ k ∧ k < 44
    · rw [if_neg e0, if_neg e9, if_neg h3, if_neg e28, if_neg e32, if_neg e33, if_pos e40, if_neg e0, if_neg e9, if_neg h3, if_neg e28, if_neg e32, if_neg e33, if_pos e40]
      rw [n2 (2 * k - 40) (by omega), n2 (2 * k - 39) (by omega), n1 (k + 4) (by omega)]
    by_cases e100 : 100 ≤ k ∧ k < 128
    · rw [if_neg e0, if_neg e9, if_neg h3, if_neg e28, if_neg e32, if_neg e33, if_neg e40, if_pos e100, if_neg e0, if_neg e9, if_neg h3, if_neg e28, if_neg e32, if_neg e33, if_neg e40, if_pos e100]
      by_cases e2 : k % 2 = 0
      · rw [if_pos e2, if_pos e2]
        have g1 : (k - 100) / 2 ≠ i := by intro z; apply h1; show k = 100 + 2 * i; omega
        have g2 : k + 1 ≠ wo i := by show k + 1 ≠ 100 + 2 * i; omega
        have g3 : k + 1 ≠ wa i := by intro z; apply h1; show k = 100 + 2 * i; have : k + 1 = 101 + 2 * i := z; omega
        rw [hKd _ g1, had _ g2 g3, hF _ h1 h2, hF _ g2 g3]
      · rw [if_neg e2, if_neg e2]
    rw [if_neg e0, if_neg e9, if_neg h3, if_neg e28, if_neg e32, if_neg e33, if_neg e40, if_neg e100, if_neg e0, if_neg e9, if_neg h3, if_neg e28, if_neg e32, if_neg e33, if_neg e40, if_neg e100]
