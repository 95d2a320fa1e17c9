/-! relations by their kinds -/
def kci (k : Int) : Nat := if k = 0 then 7 else if k = 1 then 8 else if k = 3 then 10 else if k = 4 then 11 else 12
def RelAt (adr : Nat → Nat) (cn : Nat → va_E) (F : Nat → Nat → Int32) (r : Nat) : Prop :=
  ((F 5 r).toInt = 5 → cn (56 + r) = .inr (4, [.int (F 6 r), .int (F 7 r), .int (F 8 r), .int (bi (gB F r))])) ∧
  ((F 5 r).toInt = 7 → cn (56 + r) = .inr (5, [.int (F 6 r), .int (bi (gB F r))])) ∧
  ((F 5 r).toInt = 8 → cn (56 + r) = .inr (6, [.int (F 6 r), .int (F 7 r), .ref (adr (47 + 3 * (F 8 r).toInt.toNat)), .int (bi (gB F r))])) ∧
  ((F 5 r).toInt = 2 → ∃ e, TP cn (56 + r) 9 (F 7 r) (F 6 r) (F 8 r) e (gB F r)) ∧
  ((F 5 r).toInt ≠ 2 → (F 5 r).toInt ≠ 5 → (F 5 r).toInt ≠ 7 → (F 5 r).toInt ≠ 8 → ∃ e, TP cn (56 + r) (kci (F 5 r).toInt) (F 6 r) (F 7 r) (F 8 r) e (gB F r))
def RPs (cA : Nat → ClassId) (adr : Nat → Nat) (cn : Nat → va_E) (F : Nat → Nat → Int32) : Prop := ∀ t, t < 3 → RP cA adr cn (47 + 3 * t) (fun k => F 11 (10 * t + k)) (fun k => F 12 (10 * t + k)) (F 10 t)
theorem RelAt.fr {adr : Nat → Nat} {cn cn' : Nat → va_E} {F : Nat → Nat → Int32} {r : Nat} (h : RelAt adr cn F r) (e : cn' (56 + r) = cn (56 + r)) : RelAt adr cn' F r := by
  unfold RelAt TP at *
  rw [e]
  exact h
section XRL
variable {p : Program} {l : Launch} {e : Env} {R : Room} {s : State} {m : MethodId} {args : Array Value} {below : List Frame} {meth : Method} {c : Code} {H : Heap} {locs : List Loc} {cells slots : Nat} {Q : State → Prop}
variable {cc : ByteArray} {pc : Nat} {ls : Array Slot} {rest : List Value} {D : va_G} {cA : Nat → ClassId} {H0 : Heap} {N : List Nat} {adr : Nat → Nat} {cn : Nat → va_E} {F : Nat → Nat → Int32} {r nL : Nat}
theorem x_good (hexec : p.tables.exec = Jvm.exec) (hb : c.code = cc) (hK : KE D cA s) (hown : s.vm.findClass "RangeSheet" = some m.cls) (hP : va_P D classes (wl N adr cn) H) (hN : 56 + r ∈ N) (hRel : RelAt adr cn F r) (hk0 : 0 ≤ (F 5 r).toInt ∧ (F 5 r).toInt ≤ 8) (hdg : decode cc pc = .ok (.getfield 134, 3)) (kk : W p l e R s m args below meth c H locs cells slots Q (F0 m (pc + 3) ls (.int (bi (gB F r)) :: rest))) : W p l e R s m args below meth c H locs cells slots Q (F0 m pc ls (.ref (adr (56 + r)) :: rest)) := by
  rcases (by omega : (F 5 r).toInt = 0 ∨ (F 5 r).toInt = 1 ∨ (F 5 r).toInt = 2 ∨ (F 5 r).toInt = 3 ∨ (F 5 r).toInt = 4 ∨ (F 5 r).toInt = 5 ∨ (F 5 r).toInt = 6 ∨ (F 5 r).toInt = 7 ∨ (F 5 r).toInt = 8) with hk | hk | hk | hk | hk | hk | hk | hk | hk
  · obtain ⟨e0, hT⟩ := hRel.2.2.2.2 (by omega) (by omega) (by omega) (by omega); rw [show kci (F 5 r).toInt = 7 from by rw [hk]; rfl] at hT
    exact w_gfN hexec hb hK i_Sum hown hP hN hT rfl 9 (by decide) t_521 rfl rfl hdg kk
  · obtain ⟨e0, hT⟩ := hRel.2.2.2.2 (by omega) (by omega) (by omega) (by omega); rw [show kci (F 5 r).toInt = 8 from by rw [hk]; rfl] at hT
    exact w_gfN hexec hb hK i_Product hown hP hN hT rfl 9 (by decide) t_521 rfl rfl hdg kk
  · obtain ⟨e0, hT⟩ := hRel.2.2.2.1 hk
    exact w_gfN hexec hb hK i_Quotient hown hP hN hT rfl 9 (by decide) t_521 rfl rfl hdg kk
  · obtain ⟨e0, hT⟩ := hRel.2.2.2.2 (by omega) (by omega) (by omega) (by omega); rw [show kci (F 5 r).toInt = 10 from by rw [hk]; rfl] at hT
    exact w_gfN hexec hb hK i_Lesser hown hP hN hT rfl 9 (by decide) t_521 rfl rfl hdg kk
  · obtain ⟨e0, hT⟩ := hRel.2.2.2.2 (by omega) (by omega) (by omega) (by omega); rw [show kci (F 5 r).toInt = 11 from by rw [hk]; rfl] at hT
    exact w_gfN hexec hb hK i_Greater hown hP hN hT rfl 9 (by decide) t_521 rfl rfl hdg kk
  · have hT := hRel.1 hk
    exact w_gfN hexec hb hK i_AtMost hown hP hN hT rfl 3 (by decide) t_521 rfl rfl hdg kk
  · obtain ⟨e0, hT⟩ := hRel.2.2.2.2 (by omega) (by omega) (by omega) (by omega); rw [show kci (F 5 r).toInt = 12 from by rw [hk]; rfl] at hT
    exact w_gfN hexec hb hK i_If hown hP hN hT rfl 9 (by decide) t_521 rfl rfl hdg kk
  · have hT := hRel.2.1 hk
    exact w_gfN hexec hb hK i_Different hown hP hN hT rfl 1 (by decide) t_521 rfl rfl hdg kk
  · have hT := hRel.2.2.1 hk
    exact w_gfN hexec hb hK i_Lookup hown hP hN hT rfl 3 (by decide) t_521 rfl rfl hdg kk
theorem x_narrow (hexec : p.tables.exec = Jvm.exec) (hb : c.code = cc) (hml : c.maxLocals = nL) (hown : s.vm.findClass "RangeSheet" = some m.cls) (hK : KE D cA s) (hsize : ls.size = nL) (hi : wI N adr) (hP : va_P D classes (wl N adr cn) H) (hS : va_S (wA N adr) H0 H locs) (hN : 56 + r ∈ N) (hMr : ∀ t, t < 3 → BM N (47 + 3 * t)) (hRel : RelAt adr cn F r) (hRP : RPs cA adr cn F) {nn : Nat} (hRV : RV nn (F 5 r).toInt (F 6 r).toInt (F 7 r).toInt (F 8 r).toInt) (hRW : RW F) {b : Nat} {f g : Nat → Int32} {ch : Bool} (hB : BP cA adr cn b f g ch) (hMb : BM N b) (hbd : b + 2 < 47) (hn10 : nn ≤ 10) (hne : Ne nn (tI f) (tI g)) (hrg : ∀ k, k < nn → -100 ≤ tI f k ∧ tI g k ≤ 100) (hR : 10 ≤ R.frames ∧ 600 ≤ R.locals) (hc : cells ≤ R.cells ∧ slots ≤ R.slots) (hW : (rest.map fun v => v.category).sum ≤ 8) (hdg : decode cc pc = .ok (.invokevirtual 156, 3))
    (kk : ∀ (H1 : Heap) (locs1 : List Loc) (cn2 : Nat → va_E) (f2 g2 : Nat → Int32) (q c2 : Bool), FrTB (56 + r) b cn cn2 → RelAt adr cn2 F r → BP cA adr cn2 b f2 g2 c2 → NOK nn (FxR F r) (tI f) (tI g) q (tI f2) (tI g2) ch c2 → va_P D classes (wl N adr cn2) H1 → va_S (wA N adr) H0 H1 locs1 → W p l e R s m args below meth c H1 locs1 cells slots Q (F0 m (pc + 3) ls (.int (bi q) :: rest))) : W p l e R s m args below meth c H locs cells slots Q (F0 m pc ls (.ref (adr b) :: .ref (adr (56 + r)) :: rest)) := by
  obtain ⟨hk0, hV7, hV1, hV5, hV8, hV3⟩ := hRV
  rcases (by omega : (F 5 r).toInt = 0 ∨ (F 5 r).toInt = 1 ∨ (F 5 r).toInt = 2 ∨ (F 5 r).toInt = 3 ∨ (F 5 r).toInt = 4 ∨ (F 5 r).toInt = 5 ∨ (F 5 r).toInt = 6 ∨ (F 5 r).toInt = 7 ∨ (F 5 r).toInt = 8) with hk | hk | hk | hk | hk | hk | hk | hk | hk
  · obtain ⟨e0, hT⟩ := hRel.2.2.2.2 (by omega) (by omega) (by omega) (by omega); rw [show kci (F 5 r).toInt = 7 from by rw [hk]; rfl] at hT
    have hV1 := hV1 (by omega)
    have hV3 := hV3 (by omega) (by omega) (by omega)
    refine x_A (As := [.ref (adr b)]) (rest := rest) hexec hb hml hown hK (k_narrow_Sum l D cA adr N hi cn (56 + r) (F 6 r) (F 7 r) (F 8 r) e0 (gB F r) hT hN b f g ch hB hMb (by omega) nn hn10 hne hrg (F 6 r).toInt.toNat (F 7 r).toInt.toNat (F 8 r).toInt.toNat (by omega) (by omega) (by omega) (by omega) (by omega) (by omega)) t_217 t_11 t_187 t_189 t_188 t_298 t_216 ⟨by decide, by decide, yk_Three_narrow.2.2⟩ ⟨Nat.le_trans (Nat.le_of_ble_eq_true rfl) hR.1, Nat.le_trans (Nat.le_of_ble_eq_true rfl) hR.2⟩ (w_rec hK hP hN hT rfl) hP rfl hsize rfl hW hdg hc hS (fun q h => h) (fun rr H1 l1 hq _ hS1 => ?_)
    obtain ⟨cn2, f2, g2, e2, q, c2, rfl, hF2, hT2, hB2, hN2, hP2⟩ := hq
    exact kk H1 l1 cn2 f2 g2 q c2 hF2 ⟨fun h => absurd h (by omega), fun h => absurd h (by omega), fun h => absurd h (by omega), fun h => absurd h (by omega), fun _ _ _ _ => ⟨e2, by rw [show kci (F 5 r).toInt = 7 from by rw [hk]; rfl]; exact hT2⟩⟩ hB2 (by unfold FxR; rw [FxK_3 (kk := 0) (by omega) (by decide) (by decide)]; exact hN2) hP2 hS1
  · obtain ⟨e0, hT⟩ := hRel.2.2.2.2 (by omega) (by omega) (by omega) (by omega); rw [show kci (F 5 r).toInt = 8 from by rw [hk]; rfl] at hT
    have hV1 := hV1 (by omega)
    have hV3 := hV3 (by omega) (by omega) (by omega)
    refine x_A (As := [.ref (adr b)]) (rest := rest) hexec hb hml hown hK (k_narrow_Product l D cA adr N hi cn (56 + r) (F 6 r) (F 7 r) (F 8 r) e0 (gB F r) hT hN b f g ch hB hMb (by omega) nn hn10 hne hrg (F 6 r).toInt.toNat (F 7 r).toInt.toNat (F 8 r).toInt.toNat (by omega) (by omega) (by omega) (by omega) (by omega) (by omega)) t_217 t_11 t_187 t_189 t_188 t_296 t_216 ⟨by decide, by decide, yk_Three_narrow.2.2⟩ ⟨Nat.le_trans (Nat.le_of_ble_eq_true rfl) hR.1, Nat.le_trans (Nat.le_of_ble_eq_true rfl) hR.2⟩ (w_rec hK hP hN hT rfl) hP rfl hsize rfl hW hdg hc hS (fun q h => h) (fun rr H1 l1 hq _ hS1 => ?_)
    obtain ⟨cn2, f2, g2, e2, q, c2, rfl, hF2, hT2, hB2, hN2, hP2⟩ := hq
    exact kk H1 l1 cn2 f2 g2 q c2 hF2 ⟨fun h => absurd h (by omega), fun h => absurd h (by omega), fun h => absurd h (by omega), fun h => absurd h (by omega), fun _ _ _ _ => ⟨e2, by rw [show kci (F 5 r).toInt = 8 from by rw [hk]; rfl]; exact hT2⟩⟩ hB2 (by unfold FxR; rw [FxK_3 (kk := 1) (by omega) (by decide) (by decide)]; exact hN2) hP2 hS1
  · obtain ⟨e0, hT⟩ := hRel.2.2.2.1 hk
    have hV1 := hV1 (by omega)
    have hV3 := hV3 (by omega) (by omega) (by omega)
    refine x_A (As := [.ref (adr b)]) (rest := rest) hexec hb hml hown hK (k_narrow_Quotient l D cA adr N hi cn (56 + r) (F 7 r) (F 6 r) (F 8 r) e0 (gB F r) hT hN b f g ch hB hMb (by omega) nn hn10 hne hrg (F 7 r).toInt.toNat (F 6 r).toInt.toNat (F 8 r).toInt.toNat (by omega) (by omega) (by omega) (by omega) (by omega) (by omega)) t_217 t_11 t_187 t_189 t_188 t_297 t_216 ⟨by decide, by decide, yk_Three_narrow.2.2⟩ ⟨Nat.le_trans (Nat.le_of_ble_eq_true rfl) hR.1, Nat.le_trans (Nat.le_of_ble_eq_true rfl) hR.2⟩ (w_rec hK hP hN hT rfl) hP rfl hsize rfl hW hdg hc hS (fun q h => h) (fun rr H1 l1 hq _ hS1 => ?_)
    obtain ⟨cn2, f2, g2, e2, q, c2, rfl, hF2, hT2, hB2, hN2, hP2⟩ := hq
    exact kk H1 l1 cn2 f2 g2 q c2 hF2 ⟨fun h => absurd h (by omega), fun h => absurd h (by omega), fun h => absurd h (by omega), fun _ => ⟨e2, hT2⟩, fun h => absurd hk h⟩ hB2 (by unfold FxR; rw [FxK_3 (kk := 2) (by omega) (by decide) (by decide)]; exact hN2) hP2 hS1
  · obtain ⟨e0, hT⟩ := hRel.2.2.2.2 (by omega) (by omega) (by omega) (by omega); rw [show kci (F 5 r).toInt = 10 from by rw [hk]; rfl] at hT
    have hV1 := hV1 (by omega)
    have hV3 := hV3 (by omega) (by omega) (by omega)
    refine x_A (As := [.ref (adr b)]) (rest := rest) hexec hb hml hown hK (k_narrow_Lesser l D cA adr N hi cn (56 + r) (F 6 r) (F 7 r) (F 8 r) e0 (gB F r) hT hN b f g ch hB hMb (by omega) nn hn10 hne hrg (F 6 r).toInt.toNat (F 7 r).toInt.toNat (F 8 r).toInt.toNat (by omega) (by omega) (by omega) (by omega) (by omega) (by omega)) t_217 t_11 t_187 t_189 t_188 t_284 t_216 ⟨by decide, by decide, yk_Three_narrow.2.2⟩ ⟨Nat.le_trans (Nat.le_of_ble_eq_true rfl) hR.1, Nat.le_trans (Nat.le_of_ble_eq_true rfl) hR.2⟩ (w_rec hK hP hN hT rfl) hP rfl hsize rfl hW hdg hc hS (fun q h => h) (fun rr H1 l1 hq _ hS1 => ?_)
    obtain ⟨cn2, f2, g2, e2, q, c2, rfl, hF2, hT2, hB2, hN2, hP2⟩ := hq
    exact kk H1 l1 cn2 f2 g2 q c2 hF2 ⟨fun h => absurd h (by omega), fun h => absurd h (by omega), fun h => absurd h (by omega), fun h => absurd h (by omega), fun _ _ _ _ => ⟨e2, by rw [show kci (F 5 r).toInt = 10 from by rw [hk]; rfl]; exact hT2⟩⟩ hB2 (by unfold FxR; rw [FxK_3 (kk := 3) (by omega) (by decide) (by decide)]; exact hN2) hP2 hS1
  · obtain ⟨e0, hT⟩ := hRel.2.2.2.2 (by omega) (by omega) (by omega) (by omega); rw [show kci (F 5 r).toInt = 11 from by rw [hk]; rfl] at hT
    have hV1 := hV1 (by omega)
    have hV3 := hV3 (by omega) (by omega) (by omega)
    refine x_A (As := [.ref (adr b)]) (rest := rest) hexec hb hml hown hK (k_narrow_Greater l D cA adr N hi cn (56 + r) (F 6 r) (F 7 r) (F 8 r) e0 (gB F r) hT hN b f g ch hB hMb (by omega) nn hn10 hne hrg (F 6 r).toInt.toNat (F 7 r).toInt.toNat (F 8 r).toInt.toNat (by omega) (by omega) (by omega) (by omega) (by omega) (by omega)) t_217 t_11 t_187 t_189 t_188 t_215 t_216 ⟨by decide, by decide, yk_Three_narrow.2.2⟩ ⟨Nat.le_trans (Nat.le_of_ble_eq_true rfl) hR.1, Nat.le_trans (Nat.le_of_ble_eq_true rfl) hR.2⟩ (w_rec hK hP hN hT rfl) hP rfl hsize rfl hW hdg hc hS (fun q h => h) (fun rr H1 l1 hq _ hS1 => ?_)
    obtain ⟨cn2, f2, g2, e2, q, c2, rfl, hF2, hT2, hB2, hN2, hP2⟩ := hq
    exact kk H1 l1 cn2 f2 g2 q c2 hF2 ⟨fun h => absurd h (by omega), fun h => absurd h (by omega), fun h => absurd h (by omega), fun h => absurd h (by omega), fun _ _ _ _ => ⟨e2, by rw [show kci (F 5 r).toInt = 11 from by rw [hk]; rfl]; exact hT2⟩⟩ hB2 (by unfold FxR; rw [FxK_3 (kk := 4) (by omega) (by decide) (by decide)]; exact hN2) hP2 hS1
  · have hT := hRel.1 hk
    have hV1 := hV1 (by omega)
    have hV5 := hV5 hk
    refine x_A (As := [.ref (adr b)]) (rest := rest) hexec hb hml hown hK (k_AtMost_narrow l D cA adr N hi cn (56 + r) (F 6 r) (F 7 r) (F 8 r) (gB F r) hT hN b f g ch hB hMb (by omega) nn hn10 hne hrg (F 6 r).toInt.toNat (F 7 r).toInt.toNat (by omega) (by omega) (by omega) (by omega) (by omega)) t_192 t_17 t_187 t_189 t_188 t_190 t_191 ⟨by decide, by decide, yk_AtMost_narrow.2.2⟩ ⟨Nat.le_trans (Nat.le_of_ble_eq_true rfl) hR.1, Nat.le_trans (Nat.le_of_ble_eq_true rfl) hR.2⟩ (w_rec hK hP hN hT rfl) hP rfl hsize rfl hW hdg hc hS (fun q h => h) (fun rr H1 l1 hq _ hS1 => ?_)
    obtain ⟨cn2, f2, g2, q, c2, rfl, hF2, hB2, hN2, hP2⟩ := hq
    exact kk H1 l1 cn2 f2 g2 q c2 (FrTB.b hF2) (hRel.fr (hF2 (56 + r) (by omega) (by omega) (by omega))) hB2 (by unfold FxR; rw [FxK_5 hk]; exact hN2) hP2 hS1
  · obtain ⟨e0, hT⟩ := hRel.2.2.2.2 (by omega) (by omega) (by omega) (by omega); rw [show kci (F 5 r).toInt = 12 from by rw [hk]; rfl] at hT
    have hV1 := hV1 (by omega)
    have hV3 := hV3 (by omega) (by omega) (by omega)
    refine x_A (As := [.ref (adr b)]) (rest := rest) hexec hb hml hown hK (k_narrow_If l D cA adr N hi cn (56 + r) (F 6 r) (F 7 r) (F 8 r) e0 (gB F r) hT hN b f g ch hB hMb (by omega) nn hn10 hne hrg (F 6 r).toInt.toNat (F 7 r).toInt.toNat (F 8 r).toInt.toNat (by omega) (by omega) (by omega) (by omega) (by omega) (by omega)) t_217 t_11 t_187 t_189 t_188 t_283 t_216 ⟨by decide, by decide, yk_Three_narrow.2.2⟩ ⟨Nat.le_trans (Nat.le_of_ble_eq_true rfl) hR.1, Nat.le_trans (Nat.le_of_ble_eq_true rfl) hR.2⟩ (w_rec hK hP hN hT rfl) hP rfl hsize rfl hW hdg hc hS (fun q h => h) (fun rr H1 l1 hq _ hS1 => ?_)
    obtain ⟨cn2, f2, g2, e2, q, c2, rfl, hF2, hT2, hB2, hN2, hP2⟩ := hq
    exact kk H1 l1 cn2 f2 g2 q c2 hF2 ⟨fun h => absurd h (by omega), fun h => absurd h (by omega), fun h => absurd h (by omega), fun h => absurd h (by omega), fun _ _ _ _ => ⟨e2, by rw [show kci (F 5 r).toInt = 12 from by rw [hk]; rfl]; exact hT2⟩⟩ hB2 (by unfold FxR; rw [FxK_3 (kk := 6) (by omega) (by decide) (by decide)]; exact hN2) hP2 hS1
  · have hT := hRel.2.1 hk
    have hV7 := hV7 hk
    refine x_A (As := [.ref (adr b)]) (rest := rest) hexec hb hml hown hK (k_Different_narrow l D cA adr N hi cn (56 + r) (F 6 r) (gB F r) hT hN (F 6 r).toInt.toNat (by omega) b f g ch hB hMb (by omega) nn hn10 hne hrg (mk_lt hV7.2.2)) t_196 t_19 t_187 t_189 t_188 t_194 t_195 ⟨by decide, by decide, yk_Different_narrow.2.2⟩ ⟨Nat.le_trans (Nat.le_of_ble_eq_true rfl) hR.1, Nat.le_trans (Nat.le_of_ble_eq_true rfl) hR.2⟩ (w_rec hK hP hN hT rfl) hP rfl hsize rfl hW hdg hc hS (fun q h => h) (fun rr H1 l1 hq _ hS1 => ?_)
    obtain ⟨cn2, f2, g2, q, c2, rfl, hF2, hB2, hN2, hP2⟩ := hq
    exact kk H1 l1 cn2 f2 g2 q c2 (FrTB.b hF2) (hRel.fr (hF2 (56 + r) (by omega) (by omega) (by omega))) hB2 (by unfold FxR; rw [FxK_7 hk]; exact hN2) hP2 hS1
  · have hT := hRel.2.2.1 hk
    have hV1 := hV1 (by omega)
    have hV8 := hV8 hk
    have hrws := hRW (F 8 r).toInt.toNat (by omega)
    refine x_A (As := [.ref (adr b)]) (rest := rest) hexec hb hml hown hK (k_Lookup_narrow l D cA adr N hi cn (56 + r) (F 6 r) (F 7 r) (47 + 3 * (F 8 r).toInt.toNat) (gB F r) hT hN _ _ _ (hRP (F 8 r).toInt.toNat (by omega)) (hMr (F 8 r).toInt.toNat (by omega)) b f g ch hB hMb (by omega) (by omega) nn hn10 hne hrg (F 6 r).toInt.toNat (F 7 r).toInt.toNat (F 10 (F 8 r).toInt.toNat).toInt.toNat (by omega) (by omega) (by have := hrws.1; omega) (by have := hrws.1; omega) (by omega) (by omega) (fun k hk => hrws.2 k (by omega))) t_287 t_20 t_187 t_189 t_188 t_285 t_286 ⟨by decide, by decide, yk_Lookup_narrow.2.2⟩ ⟨Nat.le_trans (Nat.le_of_ble_eq_true rfl) hR.1, Nat.le_trans (Nat.le_of_ble_eq_true rfl) hR.2⟩ (w_rec hK hP hN hT rfl) hP rfl hsize rfl hW hdg hc hS (fun q h => h) (fun rr H1 l1 hq _ hS1 => ?_)
    obtain ⟨cn2, f2, g2, q, c2, rfl, hF2, hB2, hN2, hP2⟩ := hq
    exact kk H1 l1 cn2 f2 g2 q c2 (FrTB.b hF2) (hRel.fr (hF2 (56 + r) (by omega) (by omega) (by omega))) hB2 (by unfold FxR; rw [FxK_8 hk]; exact hN2) hP2 hS1
end XRL
