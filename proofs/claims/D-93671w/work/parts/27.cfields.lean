/-! by gen/comp.py: field rows of the class -/
set_option maxRecDepth 100000
section CFR
variable {p : Program} {l : Launch} {e : Env} {R : Room} {s : State} {m : MethodId} {args : Array Value} {below : List Frame} {meth : Method} {c : Code} {H : Heap} {locs : List Loc} {cells slots : Nat} {Q : State → Prop}
variable {cc : ByteArray} {nL pc : Nat} {ls : Array Slot} {rest : List Value} {D : va_G} {A : Nat → Prop} {G ad : Nat → Nat} {H0 : Heap} {Kd : tK} {U : tU} {T : tT} {zz : Int32} {F : tF} {Ar : tA}
theorem c_warr (P : cP D A G ad H0 Kd U T zz F Ar H locs) {i : Nat} (hi : Kd i ≠ none) : cArr Kd (wa i) = some (1, 16) := by
  obtain ⟨kd, hk, h6, h14⟩ := P.2.2.2.1.kd hi
  exact cArr_wa h14 hi
theorem cg_rate (X : cCx p s m args meth c cc nL RX0 D G) (P : cP D A G ad H0 Kd U T zz F Ar H locs) (hdg : decode cc pc = .ok (.getfield 29, 3)) (kk : W p l e R s m args below meth c H locs cells slots Q (F0 m (pc + 3) ls (.ref (ad 1) :: rest))) : W p l e R s m args below meth c H locs cells slots Q (F0 m pc ls (.ref (ad 0) :: rest)) :=
  c_get X P 0 (by decide) q649 rfl rfl hdg kk
theorem cg_toll (X : cCx p s m args meth c cc nL RX0 D G) (P : cP D A G ad H0 Kd U T zz F Ar H locs) (hdg : decode cc pc = .ok (.getfield 33, 3)) (kk : W p l e R s m args below meth c H locs cells slots Q (F0 m (pc + 3) ls (.ref (ad 2) :: rest))) : W p l e R s m args below meth c H locs cells slots Q (F0 m pc ls (.ref (ad 0) :: rest)) :=
  c_get X P 1 (by decide) q650 rfl rfl hdg kk
theorem cg_wish (X : cCx p s m args meth c cc nL RX0 D G) (P : cP D A G ad H0 Kd U T zz F Ar H locs) (hdg : decode cc pc = .ok (.getfield 36, 3)) (kk : W p l e R s m args below meth c H locs cells slots Q (F0 m (pc + 3) ls (.ref (ad 3) :: rest))) : W p l e R s m args below meth c H locs cells slots Q (F0 m pc ls (.ref (ad 0) :: rest)) :=
  c_get X P 2 (by decide) q651 rfl rfl hdg kk
theorem cg_stay (X : cCx p s m args meth c cc nL RX0 D G) (P : cP D A G ad H0 Kd U T zz F Ar H locs) (hdg : decode cc pc = .ok (.getfield 39, 3)) (kk : W p l e R s m args below meth c H locs cells slots Q (F0 m (pc + 3) ls (.ref (ad 4) :: rest))) : W p l e R s m args below meth c H locs cells slots Q (F0 m pc ls (.ref (ad 0) :: rest)) :=
  c_get X P 3 (by decide) q652 rfl rfl hdg kk
theorem cg_road (X : cCx p s m args meth c cc nL RX0 D G) (P : cP D A G ad H0 Kd U T zz F Ar H locs) (hdg : decode cc pc = .ok (.getfield 42, 3)) (kk : W p l e R s m args below meth c H locs cells slots Q (F0 m (pc + 3) ls (.ref (ad 5) :: rest))) : W p l e R s m args below meth c H locs cells slots Q (F0 m pc ls (.ref (ad 0) :: rest)) :=
  c_get X P 4 (by decide) q653 rfl rfl hdg kk
theorem cg_sortOf (X : cCx p s m args meth c cc nL RX0 D G) (P : cP D A G ad H0 Kd U T zz F Ar H locs) (hdg : decode cc pc = .ok (.getfield 45, 3)) (kk : W p l e R s m args below meth c H locs cells slots Q (F0 m (pc + 3) ls (.ref (ad 6) :: rest))) : W p l e R s m args below meth c H locs cells slots Q (F0 m pc ls (.ref (ad 0) :: rest)) :=
  c_get X P 5 (by decide) q654 rfl rfl hdg kk
theorem cg_sorts (X : cCx p s m args meth c cc nL RX0 D G) (P : cP D A G ad H0 Kd U T zz F Ar H locs) (hdg : decode cc pc = .ok (.getfield 125, 3)) (kk : W p l e R s m args below meth c H locs cells slots Q (F0 m (pc + 3) ls (.int (F 6) :: rest))) : W p l e R s m args below meth c H locs cells slots Q (F0 m pc ls (.ref (ad 0) :: rest)) :=
  c_get X P 6 (by decide) q655 rfl rfl hdg kk
theorem cp_sorts (X : cCx p s m args meth c cc nL RX0 D G) (P : cP D A G ad H0 Kd U T zz F Ar H locs) {v : Int32} (hdg : decode cc pc = .ok (.putfield 125, 3)) (kk : ∀ (F1 : tF) (H1 : Heap) (locs1 : List Loc), F1 = upd F 6 v → cP D A G ad H0 Kd U T zz F1 Ar H1 locs1 → H1.size = H.size → W p l e R s m args below meth c H1 locs1 cells slots Q (F0 m (pc + 3) ls rest)) : W p l e R s m args below meth c H locs cells slots Q (F0 m pc ls (.int v :: .ref (ad 0) :: rest)) :=
  c_put X P 6 (by decide) q655 rfl rfl (by decide) rfl rfl hdg kk
theorem cg_carts (X : cCx p s m args meth c cc nL RX0 D G) (P : cP D A G ad H0 Kd U T zz F Ar H locs) (hdg : decode cc pc = .ok (.getfield 128, 3)) (kk : W p l e R s m args below meth c H locs cells slots Q (F0 m (pc + 3) ls (.int (F 7) :: rest))) : W p l e R s m args below meth c H locs cells slots Q (F0 m pc ls (.ref (ad 0) :: rest)) :=
  c_get X P 7 (by decide) q656 rfl rfl hdg kk
theorem cp_carts (X : cCx p s m args meth c cc nL RX0 D G) (P : cP D A G ad H0 Kd U T zz F Ar H locs) {v : Int32} (hdg : decode cc pc = .ok (.putfield 128, 3)) (kk : ∀ (F1 : tF) (H1 : Heap) (locs1 : List Loc), F1 = upd F 7 v → cP D A G ad H0 Kd U T zz F1 Ar H1 locs1 → H1.size = H.size → W p l e R s m args below meth c H1 locs1 cells slots Q (F0 m (pc + 3) ls rest)) : W p l e R s m args below meth c H locs cells slots Q (F0 m pc ls (.int v :: .ref (ad 0) :: rest)) :=
  c_put X P 7 (by decide) q656 rfl rfl (by decide) rfl rfl hdg kk
theorem cg_ways (X : cCx p s m args meth c cc nL RX0 D G) (P : cP D A G ad H0 Kd U T zz F Ar H locs) (hdg : decode cc pc = .ok (.getfield 51, 3)) (kk : W p l e R s m args below meth c H locs cells slots Q (F0 m (pc + 3) ls (.ref (ad 9) :: rest))) : W p l e R s m args below meth c H locs cells slots Q (F0 m pc ls (.ref (ad 0) :: rest)) :=
  c_get X P 8 (by decide) q657 rfl rfl hdg kk
theorem cg_names (X : cCx p s m args meth c cc nL RX0 D G) (P : cP D A G ad H0 Kd U T zz F Ar H locs) (hdg : decode cc pc = .ok (.getfield 55, 3)) (kk : W p l e R s m args below meth c H locs cells slots Q (F0 m (pc + 3) ls (.ref (ad 10) :: rest))) : W p l e R s m args below meth c H locs cells slots Q (F0 m pc ls (.ref (ad 0) :: rest)) :=
  c_get X P 9 (by decide) q658 rfl rfl hdg kk
theorem cg_rule (X : cCx p s m args meth c cc nL RX0 D G) (P : cP D A G ad H0 Kd U T zz F Ar H locs) (hdg : decode cc pc = .ok (.getfield 153, 3)) (kk : W p l e R s m args below meth c H locs cells slots Q (F0 m (pc + 3) ls (.int (F 10) :: rest))) : W p l e R s m args below meth c H locs cells slots Q (F0 m pc ls (.ref (ad 0) :: rest)) :=
  c_get X P 10 (by decide) q659 rfl rfl hdg kk
theorem cp_rule (X : cCx p s m args meth c cc nL RX0 D G) (P : cP D A G ad H0 Kd U T zz F Ar H locs) {v : Int32} (hdg : decode cc pc = .ok (.putfield 153, 3)) (kk : ∀ (F1 : tF) (H1 : Heap) (locs1 : List Loc), F1 = upd F 10 v → cP D A G ad H0 Kd U T zz F1 Ar H1 locs1 → H1.size = H.size → W p l e R s m args below meth c H1 locs1 cells slots Q (F0 m (pc + 3) ls rest)) : W p l e R s m args below meth c H locs cells slots Q (F0 m pc ls (.int v :: .ref (ad 0) :: rest)) :=
  c_put X P 10 (by decide) q659 rfl rfl (by decide) rfl rfl hdg kk
theorem cg_came (X : cCx p s m args meth c cc nL RX0 D G) (P : cP D A G ad H0 Kd U T zz F Ar H locs) (hdg : decode cc pc = .ok (.getfield 58, 3)) (kk : W p l e R s m args below meth c H locs cells slots Q (F0 m (pc + 3) ls (.ref (ad 12) :: rest))) : W p l e R s m args below meth c H locs cells slots Q (F0 m pc ls (.ref (ad 0) :: rest)) :=
  c_get X P 11 (by decide) q660 rfl rfl hdg kk
theorem cg_passed (X : cCx p s m args meth c cc nL RX0 D G) (P : cP D A G ad H0 Kd U T zz F Ar H locs) (hdg : decode cc pc = .ok (.getfield 61, 3)) (kk : W p l e R s m args below meth c H locs cells slots Q (F0 m (pc + 3) ls (.ref (ad 13) :: rest))) : W p l e R s m args below meth c H locs cells slots Q (F0 m pc ls (.ref (ad 0) :: rest)) :=
  c_get X P 12 (by decide) q661 rfl rfl hdg kk
theorem cg_line (X : cCx p s m args meth c cc nL RX0 D G) (P : cP D A G ad H0 Kd U T zz F Ar H locs) (hdg : decode cc pc = .ok (.getfield 64, 3)) (kk : W p l e R s m args below meth c H locs cells slots Q (F0 m (pc + 3) ls (.ref (ad 14) :: rest))) : W p l e R s m args below meth c H locs cells slots Q (F0 m pc ls (.ref (ad 0) :: rest)) :=
  c_get X P 13 (by decide) q662 rfl rfl hdg kk
theorem cg_passing (X : cCx p s m args meth c cc nL RX0 D G) (P : cP D A G ad H0 Kd U T zz F Ar H locs) (hdg : decode cc pc = .ok (.getfield 67, 3)) (kk : W p l e R s m args below meth c H locs cells slots Q (F0 m (pc + 3) ls (.ref (ad 15) :: rest))) : W p l e R s m args below meth c H locs cells slots Q (F0 m pc ls (.ref (ad 0) :: rest)) :=
  c_get X P 14 (by decide) q663 rfl rfl hdg kk
theorem cg_passings (X : cCx p s m args meth c cc nL RX0 D G) (P : cP D A G ad H0 Kd U T zz F Ar H locs) (hdg : decode cc pc = .ok (.getfield 171, 3)) (kk : W p l e R s m args below meth c H locs cells slots Q (F0 m (pc + 3) ls (.int (F 15) :: rest))) : W p l e R s m args below meth c H locs cells slots Q (F0 m pc ls (.ref (ad 0) :: rest)) :=
  c_get X P 15 (by decide) q664 rfl rfl hdg kk
theorem cp_passings (X : cCx p s m args meth c cc nL RX0 D G) (P : cP D A G ad H0 Kd U T zz F Ar H locs) {v : Int32} (hdg : decode cc pc = .ok (.putfield 171, 3)) (kk : ∀ (F1 : tF) (H1 : Heap) (locs1 : List Loc), F1 = upd F 15 v → cP D A G ad H0 Kd U T zz F1 Ar H1 locs1 → H1.size = H.size → W p l e R s m args below meth c H1 locs1 cells slots Q (F0 m (pc + 3) ls rest)) : W p l e R s m args below meth c H locs cells slots Q (F0 m pc ls (.int v :: .ref (ad 0) :: rest)) :=
  c_put X P 15 (by decide) q664 rfl rfl (by decide) rfl rfl hdg kk
theorem cg_betterChoice (X : cCx p s m args meth c cc nL RX0 D G) (P : cP D A G ad H0 Kd U T zz F Ar H locs) (hdg : decode cc pc = .ok (.getfield 265, 3)) (kk : W p l e R s m args below meth c H locs cells slots Q (F0 m (pc + 3) ls (.int (F 16) :: rest))) : W p l e R s m args below meth c H locs cells slots Q (F0 m pc ls (.ref (ad 0) :: rest)) :=
  c_get X P 16 (by decide) q665 rfl rfl hdg kk
theorem cp_betterChoice (X : cCx p s m args meth c cc nL RX0 D G) (P : cP D A G ad H0 Kd U T zz F Ar H locs) {v : Int32} (hdg : decode cc pc = .ok (.putfield 265, 3)) (kk : ∀ (F1 : tF) (H1 : Heap) (locs1 : List Loc), F1 = upd F 16 v → cP D A G ad H0 Kd U T zz F1 Ar H1 locs1 → H1.size = H.size → W p l e R s m args below meth c H1 locs1 cells slots Q (F0 m (pc + 3) ls rest)) : W p l e R s m args below meth c H locs cells slots Q (F0 m pc ls (.int v :: .ref (ad 0) :: rest)) :=
  c_put X P 16 (by decide) q665 rfl rfl (by decide) rfl rfl hdg kk
theorem cg_betterBy (X : cCx p s m args meth c cc nL RX0 D G) (P : cP D A G ad H0 Kd U T zz F Ar H locs) (hdg : decode cc pc = .ok (.getfield 268, 3)) (kk : W p l e R s m args below meth c H locs cells slots Q (F0 m (pc + 3) ls (.int (F 17) :: rest))) : W p l e R s m args below meth c H locs cells slots Q (F0 m pc ls (.ref (ad 0) :: rest)) :=
  c_get X P 17 (by decide) q666 rfl rfl hdg kk
theorem cp_betterBy (X : cCx p s m args meth c cc nL RX0 D G) (P : cP D A G ad H0 Kd U T zz F Ar H locs) {v : Int32} (hdg : decode cc pc = .ok (.putfield 268, 3)) (kk : ∀ (F1 : tF) (H1 : Heap) (locs1 : List Loc), F1 = upd F 17 v → cP D A G ad H0 Kd U T zz F1 Ar H1 locs1 → H1.size = H.size → W p l e R s m args below meth c H1 locs1 cells slots Q (F0 m (pc + 3) ls rest)) : W p l e R s m args below meth c H locs cells slots Q (F0 m pc ls (.int v :: .ref (ad 0) :: rest)) :=
  c_put X P 17 (by decide) q666 rfl rfl (by decide) rfl rfl hdg kk
theorem cg_trials (X : cCx p s m args meth c cc nL RX0 D G) (P : cP D A G ad H0 Kd U T zz F Ar H locs) (hdg : decode cc pc = .ok (.getfield 70, 3)) (kk : W p l e R s m args below meth c H locs cells slots Q (F0 m (pc + 3) ls (.ref (ad 19) :: rest))) : W p l e R s m args below meth c H locs cells slots Q (F0 m pc ls (.ref (ad 0) :: rest)) :=
  c_get X P 18 (by decide) q667 rfl rfl hdg kk
theorem cg_keptWish (X : cCx p s m args meth c cc nL RX0 D G) (P : cP D A G ad H0 Kd U T zz F Ar H locs) (hdg : decode cc pc = .ok (.getfield 74, 3)) (kk : W p l e R s m args below meth c H locs cells slots Q (F0 m (pc + 3) ls (.ref (ad 20) :: rest))) : W p l e R s m args below meth c H locs cells slots Q (F0 m pc ls (.ref (ad 0) :: rest)) :=
  c_get X P 19 (by decide) q668 rfl rfl hdg kk
theorem cg_imageRate (X : cCx p s m args meth c cc nL RX0 D G) (P : cP D A G ad H0 Kd U T zz F Ar H locs) (hdg : decode cc pc = .ok (.getfield 77, 3)) (kk : W p l e R s m args below meth c H locs cells slots Q (F0 m (pc + 3) ls (.ref (ad 21) :: rest))) : W p l e R s m args below meth c H locs cells slots Q (F0 m pc ls (.ref (ad 0) :: rest)) :=
  c_get X P 20 (by decide) q669 rfl rfl hdg kk
theorem cg_imageToll (X : cCx p s m args meth c cc nL RX0 D G) (P : cP D A G ad H0 Kd U T zz F Ar H locs) (hdg : decode cc pc = .ok (.getfield 80, 3)) (kk : W p l e R s m args below meth c H locs cells slots Q (F0 m (pc + 3) ls (.ref (ad 22) :: rest))) : W p l e R s m args below meth c H locs cells slots Q (F0 m pc ls (.ref (ad 0) :: rest)) :=
  c_get X P 21 (by decide) q670 rfl rfl hdg kk
theorem cg_imageWish (X : cCx p s m args meth c cc nL RX0 D G) (P : cP D A G ad H0 Kd U T zz F Ar H locs) (hdg : decode cc pc = .ok (.getfield 83, 3)) (kk : W p l e R s m args below meth c H locs cells slots Q (F0 m (pc + 3) ls (.ref (ad 23) :: rest))) : W p l e R s m args below meth c H locs cells slots Q (F0 m pc ls (.ref (ad 0) :: rest)) :=
  c_get X P 22 (by decide) q671 rfl rfl hdg kk
theorem cg_imageChoice (X : cCx p s m args meth c cc nL RX0 D G) (P : cP D A G ad H0 Kd U T zz F Ar H locs) (hdg : decode cc pc = .ok (.getfield 86, 3)) (kk : W p l e R s m args below meth c H locs cells slots Q (F0 m (pc + 3) ls (.ref (ad 24) :: rest))) : W p l e R s m args below meth c H locs cells slots Q (F0 m pc ls (.ref (ad 0) :: rest)) :=
  c_get X P 23 (by decide) q672 rfl rfl hdg kk
theorem cg_imageWays (X : cCx p s m args meth c cc nL RX0 D G) (P : cP D A G ad H0 Kd U T zz F Ar H locs) (hdg : decode cc pc = .ok (.getfield 90, 3)) (kk : W p l e R s m args below meth c H locs cells slots Q (F0 m (pc + 3) ls (.int (F 24) :: rest))) : W p l e R s m args below meth c H locs cells slots Q (F0 m pc ls (.ref (ad 0) :: rest)) :=
  c_get X P 24 (by decide) q673 rfl rfl hdg kk
theorem cp_imageWays (X : cCx p s m args meth c cc nL RX0 D G) (P : cP D A G ad H0 Kd U T zz F Ar H locs) {v : Int32} (hdg : decode cc pc = .ok (.putfield 90, 3)) (kk : ∀ (F1 : tF) (H1 : Heap) (locs1 : List Loc), F1 = upd F 24 v → cP D A G ad H0 Kd U T zz F1 Ar H1 locs1 → H1.size = H.size → W p l e R s m args below meth c H1 locs1 cells slots Q (F0 m (pc + 3) ls rest)) : W p l e R s m args below meth c H locs cells slots Q (F0 m pc ls (.int v :: .ref (ad 0) :: rest)) :=
  c_put X P 24 (by decide) q673 rfl rfl (by decide) rfl rfl hdg kk
theorem cg_imageRule (X : cCx p s m args meth c cc nL RX0 D G) (P : cP D A G ad H0 Kd U T zz F Ar H locs) (hdg : decode cc pc = .ok (.getfield 317, 3)) (kk : W p l e R s m args below meth c H locs cells slots Q (F0 m (pc + 3) ls (.int (F 25) :: rest))) : W p l e R s m args below meth c H locs cells slots Q (F0 m pc ls (.ref (ad 0) :: rest)) :=
  c_get X P 25 (by decide) q674 rfl rfl hdg kk
theorem cp_imageRule (X : cCx p s m args meth c cc nL RX0 D G) (P : cP D A G ad H0 Kd U T zz F Ar H locs) {v : Int32} (hdg : decode cc pc = .ok (.putfield 317, 3)) (kk : ∀ (F1 : tF) (H1 : Heap) (locs1 : List Loc), F1 = upd F 25 v → cP D A G ad H0 Kd U T zz F1 Ar H1 locs1 → H1.size = H.size → W p l e R s m args below meth c H1 locs1 cells slots Q (F0 m (pc + 3) ls rest)) : W p l e R s m args below meth c H locs cells slots Q (F0 m pc ls (.int v :: .ref (ad 0) :: rest)) :=
  c_put X P 25 (by decide) q674 rfl rfl (by decide) rfl rfl hdg kk
theorem cg_imageSorts (X : cCx p s m args meth c cc nL RX0 D G) (P : cP D A G ad H0 Kd U T zz F Ar H locs) (hdg : decode cc pc = .ok (.getfield 314, 3)) (kk : W p l e R s m args below meth c H locs cells slots Q (F0 m (pc + 3) ls (.int (F 26) :: rest))) : W p l e R s m args below meth c H locs cells slots Q (F0 m pc ls (.ref (ad 0) :: rest)) :=
  c_get X P 26 (by decide) q675 rfl rfl hdg kk
theorem cp_imageSorts (X : cCx p s m args meth c cc nL RX0 D G) (P : cP D A G ad H0 Kd U T zz F Ar H locs) {v : Int32} (hdg : decode cc pc = .ok (.putfield 314, 3)) (kk : ∀ (F1 : tF) (H1 : Heap) (locs1 : List Loc), F1 = upd F 26 v → cP D A G ad H0 Kd U T zz F1 Ar H1 locs1 → H1.size = H.size → W p l e R s m args below meth c H1 locs1 cells slots Q (F0 m (pc + 3) ls rest)) : W p l e R s m args below meth c H locs cells slots Q (F0 m pc ls (.int v :: .ref (ad 0) :: rest)) :=
  c_put X P 26 (by decide) q675 rfl rfl (by decide) rfl rfl hdg kk
theorem cg_texts (X : cCx p s m args meth c cc nL RX0 D G) (P : cP D A G ad H0 Kd U T zz F Ar H locs) (hdg : decode cc pc = .ok (.getfield 96, 3)) (kk : W p l e R s m args below meth c H locs cells slots Q (F0 m (pc + 3) ls (.ref (ad 28) :: rest))) : W p l e R s m args below meth c H locs cells slots Q (F0 m pc ls (.ref (ad 0) :: rest)) :=
  c_get X P 27 (by decide) q676 rfl rfl hdg kk
theorem cg_textCount (X : cCx p s m args meth c cc nL RX0 D G) (P : cP D A G ad H0 Kd U T zz F Ar H locs) (hdg : decode cc pc = .ok (.getfield 116, 3)) (kk : W p l e R s m args below meth c H locs cells slots Q (F0 m (pc + 3) ls (.int (F 28) :: rest))) : W p l e R s m args below meth c H locs cells slots Q (F0 m pc ls (.ref (ad 0) :: rest)) :=
  c_get X P 28 (by decide) q677 rfl rfl hdg kk
theorem cg_tape (X : cCx p s m args meth c cc nL RX0 D G) (P : cP D A G ad H0 Kd U T zz F Ar H locs) (hdg : decode cc pc = .ok (.getfield 100, 3)) (kk : W p l e R s m args below meth c H locs cells slots Q (F0 m (pc + 3) ls (.ref (ad 30) :: rest))) : W p l e R s m args below meth c H locs cells slots Q (F0 m pc ls (.ref (ad 0) :: rest)) :=
  c_get X P 29 (by decide) q678 rfl rfl hdg kk
theorem cg_taped (X : cCx p s m args meth c cc nL RX0 D G) (P : cP D A G ad H0 Kd U T zz F Ar H locs) (hdg : decode cc pc = .ok (.getfield 311, 3)) (kk : W p l e R s m args below meth c H locs cells slots Q (F0 m (pc + 3) ls (.int (F 30) :: rest))) : W p l e R s m args below meth c H locs cells slots Q (F0 m pc ls (.ref (ad 0) :: rest)) :=
  c_get X P 30 (by decide) q679 rfl rfl hdg kk
theorem cp_taped (X : cCx p s m args meth c cc nL RX0 D G) (P : cP D A G ad H0 Kd U T zz F Ar H locs) {v : Int32} (hdg : decode cc pc = .ok (.putfield 311, 3)) (kk : ∀ (F1 : tF) (H1 : Heap) (locs1 : List Loc), F1 = upd F 30 v → cP D A G ad H0 Kd U T zz F1 Ar H1 locs1 → H1.size = H.size → W p l e R s m args below meth c H1 locs1 cells slots Q (F0 m (pc + 3) ls rest)) : W p l e R s m args below meth c H locs cells slots Q (F0 m pc ls (.int v :: .ref (ad 0) :: rest)) :=
  c_put X P 30 (by decide) q679 rfl rfl (by decide) rfl rfl hdg kk
theorem cg_sheets (X : cCx p s m args meth c cc nL RX0 D G) (P : cP D A G ad H0 Kd U T zz F Ar H locs) (hdg : decode cc pc = .ok (.getfield 106, 3)) (kk : W p l e R s m args below meth c H locs cells slots Q (F0 m (pc + 3) ls (.ref (ad 32) :: rest))) : W p l e R s m args below meth c H locs cells slots Q (F0 m pc ls (.ref (ad 0) :: rest)) :=
  c_get X P 31 (by decide) q680 rfl rfl hdg kk
end CFR
