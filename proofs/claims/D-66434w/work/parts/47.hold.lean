theorem gB_up {F : Nat → Nat → Int32} {r : Nat} {g : Bool} : gB (va_up F 9 (upd (F 9) r (bi g))) r = g := by
  unfold gB
  rw [va_up_self]
  simp only [upd, if_true]
  cases g <;> decide
theorem gB_ne {F : Nat → Nat → Int32} {r q : Nat} {v : Int32} (h : q ≠ r) : gB (va_up F 9 (upd (F 9) r v)) q = gB F q := by
  unfold gB
  rw [va_up_self]
  simp only [upd, if_neg h]
theorem CP.hold {cA : Nat → ClassId} {adr : Nat → Nat} {cn cn' : Nat → va_E} {I : Nat → Int32} {F : Nat → Nat → Int32} {mm r : Nat} {x : Nat → Int32} {dn g : Bool} (h : CP cA adr cn I F mm x dn) (hk : ∀ k, k ≠ 56 + r → cn' k = cn k) (hr : RelAt adr cn' (va_up F 9 (upd (F 9) r (bi g))) r) : CP cA adr cn' I (va_up F 9 (upd (F 9) r (bi g))) mm x dn := by
  obtain ⟨⟨r0, r1, r2, r3, r4⟩, hy, ⟨a2, a3, a4, a5, a6, a7⟩, ⟨c8, b8⟩, ⟨f11, g11, c11, b11, e11⟩, hb⟩ := h
  have kB : ∀ a f g c, BP cA adr cn a f g c → a < 47 → BP cA adr cn' a f g c := fun a f g c q hq => ⟨(hk a (by omega)).trans q.1, (hk (a + 1) (by omega)).trans q.2.1, (hk (a + 2) (by omega)).trans q.2.2⟩
  refine ⟨⟨(hk 0 (by omega)).trans r0, (hk 1 (by omega)).trans r1, r2, r3.fr (fun k h1 h2 => hk k (by omega)), fun q hq => ?_⟩, hy, ⟨(hk 2 (by omega)).trans a2, (hk 3 (by omega)).trans a3, (hk 4 (by omega)).trans a4, (hk 5 (by omega)).trans a5, (hk 6 (by omega)).trans a6, (hk 7 (by omega)).trans a7⟩, ⟨c8, kB 8 _ _ _ b8 (by omega)⟩, ⟨f11, g11, c11, kB 11 _ _ _ b11 (by omega), e11⟩, fun d hd => by obtain ⟨f0, g0, c0, b0⟩ := hb d hd; exact ⟨f0, g0, c0, kB _ _ _ _ b0 (by omega)⟩⟩
  by_cases e : q = r
  · subst e; exact hr
  · have := (r4 q hq).fr (cn' := cn') (hk _ (by omega))
    unfold RelAt at *
    rw [gB_ne e]
    exact this
section XPG
variable {p : Program} {l : Launch} {e : Env} {R : Room} {s : State} {m : MethodId} {args : Array Value} {below : List Frame} {meth : Method} {c : Code} {H : Heap} {locs : List Loc} {cells slots : Nat} {Q : State → Prop}
variable {cc : ByteArray} {pc : Nat} {ls : Array Slot} {rest : List Value} {D : va_G} {cA : Nat → ClassId} {H0 : Heap} {N : List Nat} {adr : Nat → Nat} {cn : Nat → va_E} {F : Nat → Nat → Int32} {r nL : Nat}
theorem x_pgood (hexec : p.tables.exec = Jvm.exec) (hb : c.code = cc) (hK : KE D cA s) (hown : s.vm.findClass "RangeSheet" = some m.cls) (hi : wI N adr) (hP : va_P D classes (wl N adr cn) H) (hS : va_S (wA N adr) H0 H locs) (hN : 56 + r ∈ N) (hRel : RelAt adr cn F r) (hk0 : 0 ≤ (F 5 r).toInt ∧ (F 5 r).toInt ≤ 8) {g : Bool} (hdg : decode cc pc = .ok (.putfield 134, 3)) (kk : ∀ (H1 : Heap) (locs1 : List Loc) (cn2 : Nat → va_E), (∀ k, k ≠ 56 + r → cn2 k = cn k) → RelAt adr cn2 (va_up F 9 (upd (F 9) r (bi g))) r → va_P D classes (wl N adr cn2) H1 → va_S (wA N adr) H0 H1 locs1 → W p l e R s m args below meth c H1 locs1 cells slots Q (F0 m (pc + 3) ls rest)) : W p l e R s m args below meth c H locs cells slots Q (F0 m pc ls (.int (bi g) :: .ref (adr (56 + r)) :: rest)) := by
  have hg : gB (va_up F 9 (upd (F 9) r (bi g))) r = g := gB_up
  rcases (by omega : (F 5 r).toInt = 0 ∨ (F 5 r).toInt = 1 ∨ (F 5 r).toInt = 2 ∨ (F 5 r).toInt = 3 ∨ (F 5 r).toInt = 4 ∨ (F 5 r).toInt = 5 ∨ (F 5 r).toInt = 6 ∨ (F 5 r).toInt = 7 ∨ (F 5 r).toInt = 8) with hk | hk | hk | hk | hk | hk | hk | hk | hk
  · obtain ⟨e0, hT⟩ := hRel.2.2.2.2 (by omega) (by omega) (by omega) (by omega); rw [show kci (F 5 r).toInt = 7 from by rw [hk]; rfl] at hT
    exact w_pfN hexec hb hK i_Sum t_Sum t_Sum_ok n_Sum hown hi hP hS wA_mem hN hT rfl 9 (by decide) t_521 rfl rfl (bi_nar _) (bi_fit _) rfl hdg (fun H1 l1 hP1 hS1 => kk H1 l1 _ (fun k hk9 => va_up_ne _ _ hk9) ⟨fun h => absurd (show (F 5 r).toInt = 5 from h) (by omega), fun h => absurd (show (F 5 r).toInt = 7 from h) (by omega), fun h => absurd (show (F 5 r).toInt = 8 from h) (by omega), fun h => absurd (show (F 5 r).toInt = 2 from h) (by omega), fun _ _ _ _ => ⟨e0, by rw [hg]; show TP _ _ (kci (F 5 r).toInt) _ _ _ _ _; rw [show kci (F 5 r).toInt = 7 from by rw [hk]; rfl]; exact va_up_self _ _ _⟩⟩ hP1 hS1)
  · obtain ⟨e0, hT⟩ := hRel.2.2.2.2 (by omega) (by omega) (by omega) (by omega); rw [show kci (F 5 r).toInt = 8 from by rw [hk]; rfl] at hT
    exact w_pfN hexec hb hK i_Product t_Product t_Product_ok n_Product hown hi hP hS wA_mem hN hT rfl 9 (by decide) t_521 rfl rfl (bi_nar _) (bi_fit _) rfl hdg (fun H1 l1 hP1 hS1 => kk H1 l1 _ (fun k hk9 => va_up_ne _ _ hk9) ⟨fun h => absurd (show (F 5 r).toInt = 5 from h) (by omega), fun h => absurd (show (F 5 r).toInt = 7 from h) (by omega), fun h => absurd (show (F 5 r).toInt = 8 from h) (by omega), fun h => absurd (show (F 5 r).toInt = 2 from h) (by omega), fun _ _ _ _ => ⟨e0, by rw [hg]; show TP _ _ (kci (F 5 r).toInt) _ _ _ _ _; rw [show kci (F 5 r).toInt = 8 from by rw [hk]; rfl]; exact va_up_self _ _ _⟩⟩ hP1 hS1)
  · obtain ⟨e0, hT⟩ := hRel.2.2.2.1 hk
    exact w_pfN hexec hb hK i_Quotient t_Quotient t_Quotient_ok n_Quotient hown hi hP hS wA_mem hN hT rfl 9 (by decide) t_521 rfl rfl (bi_nar _) (bi_fit _) rfl hdg (fun H1 l1 hP1 hS1 => kk H1 l1 _ (fun k hk9 => va_up_ne _ _ hk9) ⟨fun h => absurd (show (F 5 r).toInt = 5 from h) (by omega), fun h => absurd (show (F 5 r).toInt = 7 from h) (by omega), fun h => absurd (show (F 5 r).toInt = 8 from h) (by omega), fun _ => ⟨e0, by rw [hg]; exact va_up_self _ _ _⟩, fun h => absurd hk h⟩ hP1 hS1)
  · obtain ⟨e0, hT⟩ := hRel.2.2.2.2 (by omega) (by omega) (by omega) (by omega); rw [show kci (F 5 r).toInt = 10 from by rw [hk]; rfl] at hT
    exact w_pfN hexec hb hK i_Lesser t_Lesser t_Lesser_ok n_Lesser hown hi hP hS wA_mem hN hT rfl 9 (by decide) t_521 rfl rfl (bi_nar _) (bi_fit _) rfl hdg (fun H1 l1 hP1 hS1 => kk H1 l1 _ (fun k hk9 => va_up_ne _ _ hk9) ⟨fun h => absurd (show (F 5 r).toInt = 5 from h) (by omega), fun h => absurd (show (F 5 r).toInt = 7 from h) (by omega), fun h => absurd (show (F 5 r).toInt = 8 from h) (by omega), fun h => absurd (show (F 5 r).toInt = 2 from h) (by omega), fun _ _ _ _ => ⟨e0, by rw [hg]; show TP _ _ (kci (F 5 r).toInt) _ _ _ _ _; rw [show kci (F 5 r).toInt = 10 from by rw [hk]; rfl]; exact va_up_self _ _ _⟩⟩ hP1 hS1)
  · obtain ⟨e0, hT⟩ := hRel.2.2.2.2 (by omega) (by omega) (by omega) (by omega); rw [show kci (F 5 r).toInt = 11 from by rw [hk]; rfl] at hT
    exact w_pfN hexec hb hK i_Greater t_Greater t_Greater_ok n_Greater hown hi hP hS wA_mem hN hT rfl 9 (by decide) t_521 rfl rfl (bi_nar _) (bi_fit _) rfl hdg (fun H1 l1 hP1 hS1 => kk H1 l1 _ (fun k hk9 => va_up_ne _ _ hk9) ⟨fun h => absurd (show (F 5 r).toInt = 5 from h) (by omega), fun h => absurd (show (F 5 r).toInt = 7 from h) (by omega), fun h => absurd (show (F 5 r).toInt = 8 from h) (by omega), fun h => absurd (show (F 5 r).toInt = 2 from h) (by omega), fun _ _ _ _ => ⟨e0, by rw [hg]; show TP _ _ (kci (F 5 r).toInt) _ _ _ _ _; rw [show kci (F 5 r).toInt = 11 from by rw [hk]; rfl]; exact va_up_self _ _ _⟩⟩ hP1 hS1)
  · have hT := hRel.1 hk
    exact w_pfN hexec hb hK i_AtMost t_AtMost t_AtMost_ok n_AtMost hown hi hP hS wA_mem hN hT rfl 3 (by decide) t_521 rfl rfl (bi_nar _) (bi_fit _) rfl hdg (fun H1 l1 hP1 hS1 => kk H1 l1 _ (fun k hk9 => va_up_ne _ _ hk9) ⟨fun _ => by rw [hg]; exact va_up_self _ _ _, fun h => absurd (show (F 5 r).toInt = 7 from h) (by omega), fun h => absurd (show (F 5 r).toInt = 8 from h) (by omega), fun h => absurd (show (F 5 r).toInt = 2 from h) (by omega), fun _ h => absurd hk h⟩ hP1 hS1)
  · obtain ⟨e0, hT⟩ := hRel.2.2.2.2 (by omega) (by omega) (by omega) (by omega); rw [show kci (F 5 r).toInt = 12 from by rw [hk]; rfl] at hT
    exact w_pfN hexec hb hK i_If t_If t_If_ok n_If hown hi hP hS wA_mem hN hT rfl 9 (by decide) t_521 rfl rfl (bi_nar _) (bi_fit _) rfl hdg (fun H1 l1 hP1 hS1 => kk H1 l1 _ (fun k hk9 => va_up_ne _ _ hk9) ⟨fun h => absurd (show (F 5 r).toInt = 5 from h) (by omega), fun h => absurd (show (F 5 r).toInt = 7 from h) (by omega), fun h => absurd (show (F 5 r).toInt = 8 from h) (by omega), fun h => absurd (show (F 5 r).toInt = 2 from h) (by omega), fun _ _ _ _ => ⟨e0, by rw [hg]; show TP _ _ (kci (F 5 r).toInt) _ _ _ _ _; rw [show kci (F 5 r).toInt = 12 from by rw [hk]; rfl]; exact va_up_self _ _ _⟩⟩ hP1 hS1)
  · have hT := hRel.2.1 hk
    exact w_pfN hexec hb hK i_Different t_Different t_Different_ok n_Different hown hi hP hS wA_mem hN hT rfl 1 (by decide) t_521 rfl rfl (bi_nar _) (bi_fit _) rfl hdg (fun H1 l1 hP1 hS1 => kk H1 l1 _ (fun k hk9 => va_up_ne _ _ hk9) ⟨fun h => absurd (show (F 5 r).toInt = 5 from h) (by omega), fun _ => by rw [hg]; exact va_up_self _ _ _, fun h => absurd (show (F 5 r).toInt = 8 from h) (by omega), fun h => absurd (show (F 5 r).toInt = 2 from h) (by omega), fun _ _ h => absurd hk h⟩ hP1 hS1)
  · have hT := hRel.2.2.1 hk
    exact w_pfN hexec hb hK i_Lookup t_Lookup t_Lookup_ok n_Lookup hown hi hP hS wA_mem hN hT rfl 3 (by decide) t_521 rfl rfl (bi_nar _) (bi_fit _) rfl hdg (fun H1 l1 hP1 hS1 => kk H1 l1 _ (fun k hk9 => va_up_ne _ _ hk9) ⟨fun h => absurd (show (F 5 r).toInt = 5 from h) (by omega), fun h => absurd (show (F 5 r).toInt = 7 from h) (by omega), fun _ => by rw [hg]; exact va_up_self _ _ _, fun h => absurd (show (F 5 r).toInt = 2 from h) (by omega), fun _ _ _ h => absurd hk h⟩ hP1 hS1)
end XPG
theorem bb_of {b c : Bool} (h : b = true ↔ c = true) : c = b := by cases b <;> cases c <;> simp_all
theorem cell_ext {cc : ClassId} {len : Nat} {f g : Nat → Int32} (h : ∀ k, k < len → f k = g k) : vp_cell cc (len, .inl f) = vp_cell cc (len, .inl g) := by
  rw [vp_cell_i, vp_cell_i]
  unfold arrV
  congr 1
  apply Array.ext
  · simp
  · intro i h1 h2
    simp at h1
    simp [h i (by simpa using h1)]
/-- the same cells, by other words -/
theorem wl_ext {D : va_G} {N : List Nat} {adr : Nat → Nat} {cn cn' : Nat → va_E} {H : Heap} (h : va_P D classes (wl N adr cn) H) (e : ∀ n, cn' n = cn n ∨ ∃ (cc : ClassId) (len : Nat) (f g : Nat → Int32), cn n = .inl (cc, len, .inl f) ∧ cn' n = .inl (cc, len, .inl g) ∧ ∀ k, k < len → f k = g k) : va_P D classes (wl N adr cn') H := by
  rw [wl_P] at *
  intro n hn
  have h1 := h n hn
  rcases e n with q | ⟨cc, len, f, g, e1, e2, e3⟩
  · rw [q]; exact h1
  · rw [e1] at h1
    rw [e2]
    show H[adr n]? = some (vp_cell cc (len, .inl g))
    rw [← cell_ext e3]
    exact h1
/-- the rows' arrays, read through the state -/
def rwE (cA : Nat → ClassId) (F : Nat → Nat → Int32) (cn : Nat → va_E) : Nat → va_E := fun k =>
  if 47 ≤ k ∧ k < 56 ∧ (k - 47) % 3 = 1 then .inl (cA 0, 10, .inl (fun i => F 11 (10 * ((k - 47) / 3) + i))) else
  if 47 ≤ k ∧ k < 56 ∧ (k - 47) % 3 = 2 then .inl (cA 0, 10, .inl (fun i => F 12 (10 * ((k - 47) / 3) + i))) else cn k
theorem rwE_1 {cA : Nat → ClassId} {F : Nat → Nat → Int32} {cn : Nat → va_E} {t : Nat} (h : t < 3) : rwE cA F cn (47 + 3 * t + 1) = .inl (cA 0, 10, .inl (fun i => F 11 (10 * t + i))) := by
  unfold rwE
  rw [if_pos (by omega), show (47 + 3 * t + 1 - 47) / 3 = t by omega]
theorem rwE_2 {cA : Nat → ClassId} {F : Nat → Nat → Int32} {cn : Nat → va_E} {t : Nat} (h : t < 3) : rwE cA F cn (47 + 3 * t + 2) = .inl (cA 0, 10, .inl (fun i => F 12 (10 * t + i))) := by
  unfold rwE
  rw [if_neg (by omega), if_pos (by omega), show (47 + 3 * t + 2 - 47) / 3 = t by omega]
theorem rwE_0 {cA : Nat → ClassId} {F : Nat → Nat → Int32} {cn : Nat → va_E} {k : Nat} (h : ¬ (47 ≤ k ∧ k < 56) ∨ (k - 47) % 3 = 0) : rwE cA F cn k = cn k := by
  unfold rwE
  rw [if_neg (by omega), if_neg (by omega)]
/-- a new row -/
theorem CP.row {cA : Nat → ClassId} {adr : Nat → Nat} {cn cn' : Nat → va_E} {I : Nat → Int32} {F : Nat → Nat → Int32} {mm t : Nat} {x : Nat → Int32} {dn : Bool} {xa xb v : Int32} (h : CP cA adr cn I F mm x dn) (ht : t < 3) (hc : (F 10 t).toInt.toNat < 10) (hv : v = Int32.ofInt ((F 10 t).toInt + 1)) (h0 : cn' (47 + 3 * t) = .inr (3, [.ref (adr (47 + 3 * t + 1)), .ref (adr (47 + 3 * t + 2)), .int v]))
    (h1 : cn' (47 + 3 * t + 1) = .inl (cA 0, 10, .inl (upd (fun k => F 11 (10 * t + k)) (F 10 t).toInt.toNat xa))) (h2 : cn' (47 + 3 * t + 2) = .inl (cA 0, 10, .inl (upd (fun k => F 12 (10 * t + k)) (F 10 t).toInt.toNat xb))) (hk : ∀ k, k ≠ 47 + 3 * t → k ≠ 47 + 3 * t + 1 → k ≠ 47 + 3 * t + 2 → cn' k = cn k) {G : Nat → Nat → Int32}
    (hG : G = va_up (va_up (va_up F 11 (upd (F 11) (10 * t + (F 10 t).toInt.toNat) xa)) 12 (upd (F 12) (10 * t + (F 10 t).toInt.toNat) xb)) 10 (upd (F 10) t v)) : CP cA adr (rwE cA G cn') I G mm x dn ∧ ∀ (D : va_G) (N : List Nat) (H : Heap), va_P D classes (wl N adr cn') H → va_P D classes (wl N adr (rwE cA G cn')) H := by
  obtain ⟨⟨r0, r1, r2, r3, r4⟩, hy, ⟨a2, a3, a4, a5, a6, a7⟩, ⟨c8, b8⟩, ⟨f11, g11, c11, b11, e11⟩, hb⟩ := h
  have g11e : G 11 = upd (F 11) (10 * t + (F 10 t).toInt.toNat) xa := by rw [hG]; rfl
  have g12e : G 12 = upd (F 12) (10 * t + (F 10 t).toInt.toNat) xb := by rw [hG]; rfl
  have g10e : G 10 = upd (F 10) t v := by rw [hG]; rfl
  have hgo : ∀ n, n ≠ 10 → n ≠ 11 → n ≠ 12 → G n = F n := fun n z1 z2 z3 => by rw [hG, va_up_ne _ _ z1, va_up_ne _ _ z3, va_up_ne _ _ z2]
  have kk : ∀ k, ¬ (47 ≤ k ∧ k < 56) → rwE cA G cn' k = cn k := fun k hk9 => (rwE_0 (Or.inl hk9)).trans (hk k (by omega) (by omega) (by omega))
  have kB : ∀ a f g c, BP cA adr cn a f g c → a < 45 → BP cA adr (rwE cA G cn') a f g c := fun a f g c q hq => ⟨(kk a (by omega)).trans q.1, (kk (a + 1) (by omega)).trans q.2.1, (kk (a + 2) (by omega)).trans q.2.2⟩
  refine ⟨⟨⟨(kk 0 (by omega)).trans r0, (kk 1 (by omega)).trans r1, r2, fun u hu => ⟨?_, rwE_1 hu, rwE_2 hu⟩, fun q hq => ?_⟩, hy, ⟨(kk 2 (by omega)).trans a2, ?_, ?_, ?_, (kk 6 (by omega)).trans a6, ?_⟩, ⟨c8, ?_⟩, ⟨f11, g11, c11, kB 11 _ _ _ b11 (by omega), ?_⟩, fun d hd => by obtain ⟨f0, g0, c0, b0⟩ := hb d hd; exact ⟨f0, g0, c0, kB _ _ _ _ b0 (by omega)⟩⟩, fun D N H hP => wl_ext hP (fun n => ?_)⟩
  · rw [rwE_0 (Or.inr (by omega)), g10e]
    by_cases e : u = t
    · subst e; rw [h0]; simp [upd]
    · rw [hk _ (by omega) (by omega) (by omega), (r3 u hu).1]; simp [upd, e]
  · have := (r4 q hq).fr (cn' := rwE cA G cn') (kk _ (by omega))
    unfold RelAt gB at *
    rw [hgo 5 (by omega) (by omega) (by omega), hgo 6 (by omega) (by omega) (by omega), hgo 7 (by omega) (by omega) (by omega), hgo 8 (by omega) (by omega) (by omega), hgo 9 (by omega) (by omega) (by omega)]
    exact this
  · rw [hgo 14 (by omega) (by omega) (by omega)]; exact (kk 3 (by omega)).trans a3
  · rw [hgo 15 (by omega) (by omega) (by omega)]; exact (kk 4 (by omega)).trans a4
  · rw [hgo 16 (by omega) (by omega) (by omega)]; exact (kk 5 (by omega)).trans a5
  · rw [hgo 33 (by omega) (by omega) (by omega)]; exact (kk 7 (by omega)).trans a7
  · rw [hgo 2 (by omega) (by omega) (by omega), hgo 3 (by omega) (by omega) (by omega)]; exact kB 8 _ _ _ b8 (by omega)
  · rw [hgo 29 (by omega) (by omega) (by omega), hgo 30 (by omega) (by omega) (by omega)]; exact e11
  · by_cases hn : 47 ≤ n ∧ n < 56
    · obtain ⟨u, hu, hz⟩ : ∃ u, u < 3 ∧ (n = 47 + 3 * u ∨ n = 47 + 3 * u + 1 ∨ n = 47 + 3 * u + 2) := ⟨(n - 47) / 3, by omega, by omega⟩
      rcases hz with z | z | z
      · exact Or.inl (rwE_0 (Or.inr (by omega)))
      · subst z
        refine Or.inr ⟨cA 0, 10, ?_⟩
        by_cases e : u = t
        · subst e
          refine ⟨_, _, h1, rwE_1 hu, fun k hk9 => ?_⟩
          rw [g11e]
          simp only [upd]
          by_cases e2 : k = (F 10 u).toInt.toNat
          · rw [if_pos e2, if_pos (by omega)]
          · rw [if_neg e2, if_neg (by omega)]
        · refine ⟨_, _, (hk _ (by omega) (by omega) (by omega)).trans (r3 u hu).2.1, rwE_1 hu, fun k hk9 => ?_⟩
          rw [g11e]
          simp only [upd]
          rw [if_neg (by omega)]
      · subst z
        refine Or.inr ⟨cA 0, 10, ?_⟩
        by_cases e : u = t
        · subst e
          refine ⟨_, _, h2, rwE_2 hu, fun k hk9 => ?_⟩
          rw [g12e]
          simp only [upd]
          by_cases e2 : k = (F 10 u).toInt.toNat
          · rw [if_pos e2, if_pos (by omega)]
          · rw [if_neg e2, if_neg (by omega)]
        · refine ⟨_, _, (hk _ (by omega) (by omega) (by omega)).trans (r3 u hu).2.2, rwE_2 hu, fun k hk9 => ?_⟩
          rw [g12e]
          simp only [upd]
          rw [if_neg (by omega)]
    · exact Or.inl (rwE_0 (Or.inl hn))
theorem d_Sht_hold_0 : decode b_Sht_hold 0 = .ok (.iload_n 1, 1) := by decide +kernel
theorem d_Sht_hold_1 : decode b_Sht_hold 1 = .ok (.iconst 0, 1) := by decide +kernel
theorem d_Sht_hold_2 : decode b_Sht_hold 2 = .ok (.aload_n 0, 1) := by decide +kernel
theorem d_Sht_hold_3 : decode b_Sht_hold 3 = .ok (.getfield 127, 3) := by decide +kernel
theorem d_Sht_hold_6 : decode b_Sht_hold 6 = .ok (.iconst 1, 1) := by decide +kernel
theorem d_Sht_hold_7 : decode b_Sht_hold 7 = .ok (.isub, 1) := by decide +kernel
theorem d_Sht_hold_8 : decode b_Sht_hold 8 = .ok (.invokestatic 59, 3) := by decide +kernel
theorem d_Sht_hold_11 : decode b_Sht_hold 11 = .ok (.ifCond .eq 16, 3) := by decide +kernel
theorem d_Sht_hold_14 : decode b_Sht_hold 14 = .ok (.aload_n 0, 1) := by decide +kernel
theorem d_Sht_hold_15 : decode b_Sht_hold 15 = .ok (.getfield 24, 3) := by decide +kernel
theorem d_Sht_hold_18 : decode b_Sht_hold 18 = .ok (.iload_n 1, 1) := by decide +kernel
theorem d_Sht_hold_19 : decode b_Sht_hold 19 = .ok (.aaload, 1) := by decide +kernel
theorem d_Sht_hold_20 : decode b_Sht_hold 20 = .ok (.getfield 134, 3) := by decide +kernel
theorem d_Sht_hold_23 : decode b_Sht_hold 23 = .ok (.iload_n 2, 1) := by decide +kernel
theorem d_Sht_hold_24 : decode b_Sht_hold 24 = .ok (.if_icmp .ne 5, 3) := by decide +kernel
theorem d_Sht_hold_27 : decode b_Sht_hold 27 = .ok (.iconst 0, 1) := by decide +kernel
theorem d_Sht_hold_28 : decode b_Sht_hold 28 = .ok (.ireturn, 1) := by decide +kernel
theorem d_Sht_hold_29 : decode b_Sht_hold 29 = .ok (.aload_n 0, 1) := by decide +kernel
theorem d_Sht_hold_30 : decode b_Sht_hold 30 = .ok (.getfield 24, 3) := by decide +kernel
theorem d_Sht_hold_33 : decode b_Sht_hold 33 = .ok (.iload_n 1, 1) := by decide +kernel
theorem d_Sht_hold_34 : decode b_Sht_hold 34 = .ok (.aaload, 1) := by decide +kernel
theorem d_Sht_hold_35 : decode b_Sht_hold 35 = .ok (.iload_n 2, 1) := by decide +kernel
theorem d_Sht_hold_36 : decode b_Sht_hold 36 = .ok (.putfield 134, 3) := by decide +kernel
theorem d_Sht_hold_39 : decode b_Sht_hold 39 = .ok (.iconst 1, 1) := by decide +kernel
theorem d_Sht_hold_40 : decode b_Sht_hold 40 = .ok (.ireturn, 1) := by decide +kernel
set_option maxHeartbeats 4000000 in
set_option maxRecDepth 20000 in
theorem k_Sht_hold (l : Launch) (D : va_G) (cA : Nat → ClassId) (adr : Nat → Nat) (N : List Nat) (hi : wI N adr) (cn : Nat → va_E) (F : Nat → Nat → Int32) (I : Nat → Int32) (nn mm en mk0 : Nat) (x : Nat → Int32) (dn : Bool) (hCP : CP cA adr cn I F mm x dn) (hNm : ∀ k, k < 56 + mm → k ∈ N) (hWF : WF I F nn mm en mk0) (xk : Int32) (gd : Bool) : Ct l y_Sht_hold b_Sht_hold 3 (some .boolean) 3 D cA [.ref (adr 0), .int xk, .int (bi gd)] (fun H => va_P D classes (wl N adr cn) H) (fun r H => r = some (.int (bi (q_hold F mm xk.toInt gd))) ∧ CQ D cA adr N I (G_hold F mm xk.toInt gd) mm H) (wA N adr) := by
  refine Ct.mk (by decide) (Nat.le_of_ble_eq_true rfl) ?_
  intro p e s m args below meth c Q H locs ls hx hb hr hml hlk hown hin hK hQ hS hP hl
  have hl : lv_has ls 3 [(0, .ref (adr 0)), (1, .int xk), (2, .int (bi gd))] := hl
  have hown : s.vm.findClass "RangeSheet" = some m.cls := hown
  have hWF0 := hWF
  have hCP0 := hCP
  obtain ⟨hW, hE, hen, ⟨hmk, hmke⟩, htd, hsp, hsd, hset, hgd⟩ := hWF
  obtain ⟨hSR, ⟨hx1, hx3, hx8, hx9, hx11, hx14, hx18⟩, ⟨hc2, hc3, hc4, hc5, hc6, hc7⟩, ⟨cf, hBf⟩, ⟨fn0, gn0, cn0, hBn, hBne⟩, hBx⟩ := hCP
  obtain ⟨f, g, ch, hB⟩ := hBx 0 (by omega)
  have hB : BP cA adr cn 14 f g ch := hB
  have hn10 := hW.1
  have hm12 := hW.2.1
  have hen12 := hE.1
  have hv1 : (x 1).toInt = (nn : Int) := by rw [hx1]; exact hW.2.2.1
  have hv8 : (x 8).toInt = (en : Int) := by rw [hx8]; exact hen
  have hv9 : (x 9).toInt = (mk0 : Int) := by rw [hx9]; exact hmk
  have hN0 : 0 ∈ N := hNm 0 (by omega)
  refine lv_iload_n hx hb d_Sht_hold_0 rfl (lv_at hl 1 rfl) ?_
  refine lv_iconst (v := 0) hx hb d_Sht_hold_1 (by decide) ?_
  refine lv_aload_n hx hb d_Sht_hold_2 rfl (lv_at hl 0 rfl) ?_
  refine w_gf hx hb hK i_Sht hown hP (hNm 0 (by omega)) hSR.1 rfl 3 (by decide) t_88 rfl rfl d_Sht_hold_3 ?_
  refine lv_iconst (v := 1) hx hb d_Sht_hold_6 (by decide) ?_
  refine x_sub hx hb d_Sht_hold_7 hSR.2.2.1 kc_1 (by omega) (fun z_1 tz_1 => ?_)
  refine r_wn_Sht hx hb hml hown hK hl.1 hS ⟨Nat.le_of_ble_eq_true rfl, Nat.le_of_ble_eq_true rfl⟩ ⟨Nat.le_of_ble_eq_true rfl, Nat.le_of_ble_eq_true rfl⟩ rfl kc_0 tz_1  d_Sht_hold_8 (Nat.le_of_ble_eq_true rfl) (fun locs hS => ?_)
  refine b_bool_eq (tgt := 27) hx hb d_Sht_hold_11 (by decide) (fun c_2 => ?_) (fun c_2 => ?_)
  · have hc_2 := of_decide_eq_false c_2
    refine lv_iconst (v := 0) hx hb d_Sht_hold_27 (by decide) ?_
    refine W.eq (g2 := F0 m 28 ls [.int (bi false)]) rfl ?_
    refine e_z hx hb hr hlk hQ hS d_Sht_hold_28 ?_
    have hb9 : q_hold F mm xk.toInt gd = false := decide_eq_false (fun h => by omega)
    unfold G_hold; rw [hb9]; exact ⟨rfl, CQ.of hCP0 hP⟩
  · have hc_2 := of_decide_eq_true c_2
    have hkk : xk.toInt = (xk.toInt.toNat : Int) := by omega
    refine lv_aload_n hx hb d_Sht_hold_14 rfl (lv_at hl 0 rfl) ?_
    refine w_gf hx hb hK i_Sht hown hP (hNm 0 (by omega)) hSR.1 rfl 2 (by decide) t_87 rfl rfl d_Sht_hold_15 ?_
    refine lv_iload_n hx hb d_Sht_hold_18 rfl (lv_at hl 1 rfl) ?_
    refine w_ald hx hb hK hP (hNm 1 (by omega)) hSR.2.1 rfl (xk.toInt.toNat) hkk (by omega) (show xk.toInt.toNat < 12 by omega) (if_pos (by omega)) d_Sht_hold_19 ?_
    refine x_good (r := xk.toInt.toNat) (F := F) hx hb hK hown hP (hNm _ (by omega)) (hSR.2.2.2.2 xk.toInt.toNat (by omega)) (hW.2.2.2.2.2 xk.toInt.toNat (by omega)).1 d_Sht_hold_20 ?_
    refine lv_iload_n hx hb d_Sht_hold_23 rfl (lv_at hl 2 rfl) ?_
    refine bb_icmp_ne (tgt := 29) hx hb d_Sht_hold_24 (by decide) (fun c_3 => ?_) (fun c_3 => ?_)
    · refine lv_aload_n hx hb d_Sht_hold_29 rfl (lv_at hl 0 rfl) ?_
      refine w_gf hx hb hK i_Sht hown hP (hNm 0 (by omega)) hSR.1 rfl 2 (by decide) t_87 rfl rfl d_Sht_hold_30 ?_
      refine lv_iload_n hx hb d_Sht_hold_33 rfl (lv_at hl 1 rfl) ?_
      refine w_ald hx hb hK hP (hNm 1 (by omega)) hSR.2.1 rfl (xk.toInt.toNat) hkk (by omega) (show xk.toInt.toNat < 12 by omega) (if_pos (by omega)) d_Sht_hold_34 ?_
      refine lv_iload_n hx hb d_Sht_hold_35 rfl (lv_at hl 2 rfl) ?_
      refine x_pgood (r := xk.toInt.toNat) (F := F) hx hb hK hown hi hP hS (hNm _ (by omega)) (hSR.2.2.2.2 xk.toInt.toNat (by omega)) (hW.2.2.2.2.2 xk.toInt.toNat (by omega)).1 d_Sht_hold_36 (fun H locs cn_4 hKe_4 hRe_4 hP hS => ?_)
      refine lv_iconst (v := 1) hx hb d_Sht_hold_39 (by decide) ?_
      refine W.eq (g2 := F0 m 40 ls [.int (bi true)]) rfl ?_
      refine e_z hx hb hr hlk hQ hS d_Sht_hold_40 ?_
      have hb9 : q_hold F mm xk.toInt gd = true := decide_eq_true ⟨by omega, by omega, c_3⟩
      unfold G_hold; rw [hb9, if_pos rfl]; exact ⟨rfl, CQ.of (hCP0.hold hKe_4 hRe_4) hP⟩
    · refine lv_iconst (v := 0) hx hb d_Sht_hold_27 (by decide) ?_
      refine W.eq (g2 := F0 m 28 ls [.int (bi false)]) rfl ?_
      refine e_z hx hb hr hlk hQ hS d_Sht_hold_28 ?_
      have hb9 : q_hold F mm xk.toInt gd = false := decide_eq_false (fun h => by have h2 := h.2.2; exact h2 c_3)
      unfold G_hold; rw [hb9]; exact ⟨rfl, CQ.of hCP0 hP⟩
theorem d_Sht_row_0 : decode b_Sht_row 0 = .ok (.iload_n 1, 1) := by decide +kernel
theorem d_Sht_row_1 : decode b_Sht_row 1 = .ok (.iconst 0, 1) := by decide +kernel
theorem d_Sht_row_2 : decode b_Sht_row 2 = .ok (.iconst 2, 1) := by decide +kernel
theorem d_Sht_row_3 : decode b_Sht_row 3 = .ok (.invokestatic 59, 3) := by decide +kernel
theorem d_Sht_row_6 : decode b_Sht_row 6 = .ok (.ifCond .eq 39, 3) := by decide +kernel
theorem d_Sht_row_9 : decode b_Sht_row 9 = .ok (.iload_n 2, 1) := by decide +kernel
theorem d_Sht_row_10 : decode b_Sht_row 10 = .ok (.bipush (-100), 2) := by decide +kernel
theorem d_Sht_row_12 : decode b_Sht_row 12 = .ok (.bipush 100, 2) := by decide +kernel
theorem d_Sht_row_14 : decode b_Sht_row 14 = .ok (.invokestatic 59, 3) := by decide +kernel
theorem d_Sht_row_17 : decode b_Sht_row 17 = .ok (.ifCond .eq 28, 3) := by decide +kernel
theorem d_Sht_row_20 : decode b_Sht_row 20 = .ok (.iload_n 3, 1) := by decide +kernel
theorem d_Sht_row_21 : decode b_Sht_row 21 = .ok (.bipush (-100), 2) := by decide +kernel
theorem d_Sht_row_23 : decode b_Sht_row 23 = .ok (.bipush 100, 2) := by decide +kernel
theorem d_Sht_row_25 : decode b_Sht_row 25 = .ok (.invokestatic 59, 3) := by decide +kernel
theorem d_Sht_row_28 : decode b_Sht_row 28 = .ok (.ifCond .eq 17, 3) := by decide +kernel
theorem d_Sht_row_31 : decode b_Sht_row 31 = .ok (.aload_n 0, 1) := by decide +kernel
theorem d_Sht_row_32 : decode b_Sht_row 32 = .ok (.getfield 31, 3) := by decide +kernel
theorem d_Sht_row_35 : decode b_Sht_row 35 = .ok (.iload_n 1, 1) := by decide +kernel
theorem d_Sht_row_36 : decode b_Sht_row 36 = .ok (.aaload, 1) := by decide +kernel
theorem d_Sht_row_37 : decode b_Sht_row 37 = .ok (.getfield 138, 3) := by decide +kernel
theorem d_Sht_row_40 : decode b_Sht_row 40 = .ok (.bipush 10, 2) := by decide +kernel
theorem d_Sht_row_42 : decode b_Sht_row 42 = .ok (.if_icmp .ne 5, 3) := by decide +kernel
theorem d_Sht_row_45 : decode b_Sht_row 45 = .ok (.iconst 0, 1) := by decide +kernel
theorem d_Sht_row_46 : decode b_Sht_row 46 = .ok (.ireturn, 1) := by decide +kernel
theorem d_Sht_row_47 : decode b_Sht_row 47 = .ok (.aload_n 0, 1) := by decide +kernel
theorem d_Sht_row_48 : decode b_Sht_row 48 = .ok (.getfield 31, 3) := by decide +kernel
theorem d_Sht_row_51 : decode b_Sht_row 51 = .ok (.iload_n 1, 1) := by decide +kernel
theorem d_Sht_row_52 : decode b_Sht_row 52 = .ok (.aaload, 1) := by decide +kernel
theorem d_Sht_row_53 : decode b_Sht_row 53 = .ok (.getfield 141, 3) := by decide +kernel
theorem d_Sht_row_56 : decode b_Sht_row 56 = .ok (.aload_n 0, 1) := by decide +kernel
theorem d_Sht_row_57 : decode b_Sht_row 57 = .ok (.getfield 31, 3) := by decide +kernel
theorem d_Sht_row_60 : decode b_Sht_row 60 = .ok (.iload_n 1, 1) := by decide +kernel
theorem d_Sht_row_61 : decode b_Sht_row 61 = .ok (.aaload, 1) := by decide +kernel
theorem d_Sht_row_62 : decode b_Sht_row 62 = .ok (.getfield 138, 3) := by decide +kernel
theorem d_Sht_row_65 : decode b_Sht_row 65 = .ok (.iload_n 2, 1) := by decide +kernel
theorem d_Sht_row_66 : decode b_Sht_row 66 = .ok (.iastore, 1) := by decide +kernel
theorem d_Sht_row_67 : decode b_Sht_row 67 = .ok (.aload_n 0, 1) := by decide +kernel
theorem d_Sht_row_68 : decode b_Sht_row 68 = .ok (.getfield 31, 3) := by decide +kernel
theorem d_Sht_row_71 : decode b_Sht_row 71 = .ok (.iload_n 1, 1) := by decide +kernel
theorem d_Sht_row_72 : decode b_Sht_row 72 = .ok (.aaload, 1) := by decide +kernel
theorem d_Sht_row_73 : decode b_Sht_row 73 = .ok (.getfield 144, 3) := by decide +kernel
theorem d_Sht_row_76 : decode b_Sht_row 76 = .ok (.aload_n 0, 1) := by decide +kernel
theorem d_Sht_row_77 : decode b_Sht_row 77 = .ok (.getfield 31, 3) := by decide +kernel
theorem d_Sht_row_80 : decode b_Sht_row 80 = .ok (.iload_n 1, 1) := by decide +kernel
theorem d_Sht_row_81 : decode b_Sht_row 81 = .ok (.aaload, 1) := by decide +kernel
theorem d_Sht_row_82 : decode b_Sht_row 82 = .ok (.getfield 138, 3) := by decide +kernel
theorem d_Sht_row_85 : decode b_Sht_row 85 = .ok (.iload_n 3, 1) := by decide +kernel
theorem d_Sht_row_86 : decode b_Sht_row 86 = .ok (.iastore, 1) := by decide +kernel
theorem d_Sht_row_87 : decode b_Sht_row 87 = .ok (.aload_n 0, 1) := by decide +kernel
theorem d_Sht_row_88 : decode b_Sht_row 88 = .ok (.getfield 31, 3) := by decide +kernel
theorem d_Sht_row_91 : decode b_Sht_row 91 = .ok (.iload_n 1, 1) := by decide +kernel
theorem d_Sht_row_92 : decode b_Sht_row 92 = .ok (.aaload, 1) := by decide +kernel
theorem d_Sht_row_93 : decode b_Sht_row 93 = .ok (.dup, 1) := by decide +kernel
theorem d_Sht_row_94 : decode b_Sht_row 94 = .ok (.getfield 138, 3) := by decide +kernel
theorem d_Sht_row_97 : decode b_Sht_row 97 = .ok (.iconst 1, 1) := by decide +kernel
theorem d_Sht_row_98 : decode b_Sht_row 98 = .ok (.iadd, 1) := by decide +kernel
theorem d_Sht_row_99 : decode b_Sht_row 99 = .ok (.dup_x1, 1) := by decide +kernel
theorem d_Sht_row_100 : decode b_Sht_row 100 = .ok (.putfield 138, 3) := by decide +kernel
theorem d_Sht_row_103 : decode b_Sht_row 103 = .ok (.ireturn, 1) := by decide +kernel
set_option maxHeartbeats 4000000 in
set_option maxRecDepth 20000 in
theorem k_Sht_row (l : Launch) (D : va_G) (cA : Nat → ClassId) (adr : Nat → Nat) (N : List Nat) (hi : wI N adr) (cn : Nat → va_E) (F : Nat → Nat → Int32) (I : Nat → Int32) (nn mm en mk0 : Nat) (x : Nat → Int32) (dn : Bool) (hCP : CP cA adr cn I F mm x dn) (hNm : ∀ k, k < 56 + mm → k ∈ N) (hWF : WF I F nn mm en mk0) (xt xa xb : Int32) : Ct l y_Sht_row b_Sht_row 4 (some .int) 3 D cA [.ref (adr 0), .int xt, .int xa, .int xb] (fun H => va_P D classes (wl N adr cn) H) (fun r H => ∃ z : Int32, r = some (.int z) ∧ ((¬ q_row F xt.toInt xa.toInt xb.toInt ∧ z.toInt = 0 ∧ CQ D cA adr N I F mm H) ∨ (q_row F xt.toInt xa.toInt xb.toInt ∧ z.toInt = (F 10 xt.toInt.toNat).toInt + 1 ∧ CQ D cA adr N I (G_row F xt.toInt xa xb) mm H))) (wA N adr) := by
  refine Ct.mk (by decide) (Nat.le_of_ble_eq_true rfl) ?_
  intro p e s m args below meth c Q H locs ls hx hb hr hml hlk hown hin hK hQ hS hP hl
  have hl : lv_has ls 4 [(0, .ref (adr 0)), (1, .int xt), (2, .int xa), (3, .int xb)] := hl
  have hown : s.vm.findClass "RangeSheet" = some m.cls := hown
  have hWF0 := hWF
  have hCP0 := hCP
  obtain ⟨hW, hE, hen, ⟨hmk, hmke⟩, htd, hsp, hsd, hset, hgd⟩ := hWF
  obtain ⟨hSR, ⟨hx1, hx3, hx8, hx9, hx11, hx14, hx18⟩, ⟨hc2, hc3, hc4, hc5, hc6, hc7⟩, ⟨cf, hBf⟩, ⟨fn0, gn0, cn0, hBn, hBne⟩, hBx⟩ := hCP
  obtain ⟨f, g, ch, hB⟩ := hBx 0 (by omega)
  have hB : BP cA adr cn 14 f g ch := hB
  have hn10 := hW.1
  have hm12 := hW.2.1
  have hen12 := hE.1
  have hv1 : (x 1).toInt = (nn : Int) := by rw [hx1]; exact hW.2.2.1
  have hv8 : (x 8).toInt = (en : Int) := by rw [hx8]; exact hen
  have hv9 : (x 9).toInt = (mk0 : Int) := by rw [hx9]; exact hmk
  have hN0 : 0 ∈ N := hNm 0 (by omega)
  refine lv_iload_n hx hb d_Sht_row_0 rfl (lv_at hl 1 rfl) ?_
  refine lv_iconst (v := 0) hx hb d_Sht_row_1 (by decide) ?_
  refine lv_iconst (v := 2) hx hb d_Sht_row_2 (by decide) ?_
  refine r_wn_Sht hx hb hml hown hK hl.1 hS ⟨Nat.le_of_ble_eq_true rfl, Nat.le_of_ble_eq_true rfl⟩ ⟨Nat.le_of_ble_eq_true rfl, Nat.le_of_ble_eq_true rfl⟩ rfl kc_0 kc_2  d_Sht_row_3 (Nat.le_of_ble_eq_true rfl) (fun locs hS => ?_)
  refine b_bool_eq (tgt := 45) hx hb d_Sht_row_6 (by decide) (fun c_1 => ?_) (fun c_1 => ?_)
  · have hc_1 := of_decide_eq_false c_1
    refine lv_iconst (v := 0) hx hb d_Sht_row_45 (by decide) ?_
    refine e_i hx hb hr hlk hQ hS d_Sht_row_46 ?_
    have hb9 : ¬ q_row F xt.toInt xa.toInt xb.toInt := fun h => by obtain ⟨h1, h2, h3, h4⟩ := h; omega
    exact ⟨_, rfl, Or.inl ⟨hb9, kc_0, CQ.of hCP0 hP⟩⟩
  · have hc_1 := of_decide_eq_true c_1
    have hxt : xt.toInt = (xt.toInt.toNat : Int) := by omega
    have hrw := hW.2.2.2.2.1 xt.toInt.toNat (by omega)
    have hr10 : (F 10 xt.toInt.toNat).toInt = ((F 10 xt.toInt.toNat).toInt.toNat : Int) := by have := hrw.1; omega
    have hrl := hrw.1
    have hRt := hSR.2.2.2.1 xt.toInt.toNat (by omega)
    refine lv_iload_n hx hb d_Sht_row_9 rfl (lv_at hl 2 rfl) ?_
    refine lv_bipush (v := (-100)) hx hb d_Sht_row_10 (by decide) ?_
    refine lv_bipush (v := 100) hx hb d_Sht_row_12 (by decide) ?_
    refine r_wn_Sht hx hb hml hown hK hl.1 hS ⟨Nat.le_of_ble_eq_true rfl, Nat.le_of_ble_eq_true rfl⟩ ⟨Nat.le_of_ble_eq_true rfl, Nat.le_of_ble_eq_true rfl⟩ rfl kc_m100 kc_100  d_Sht_row_14 (Nat.le_of_ble_eq_true rfl) (fun locs hS => ?_)
    refine b_bool_eq (tgt := 45) hx hb d_Sht_row_17 (by decide) (fun c_2 => ?_) (fun c_2 => ?_)
    · have hc_2 := of_decide_eq_false c_2
      refine lv_iconst (v := 0) hx hb d_Sht_row_45 (by decide) ?_
      refine e_i hx hb hr hlk hQ hS d_Sht_row_46 ?_
      have hb9 : ¬ q_row F xt.toInt xa.toInt xb.toInt := fun h => by obtain ⟨h1, h2, h3, h4⟩ := h; omega
      exact ⟨_, rfl, Or.inl ⟨hb9, kc_0, CQ.of hCP0 hP⟩⟩
    · have hc_2 := of_decide_eq_true c_2
      refine lv_iload_n hx hb d_Sht_row_20 rfl (lv_at hl 3 rfl) ?_
      refine lv_bipush (v := (-100)) hx hb d_Sht_row_21 (by decide) ?_
      refine lv_bipush (v := 100) hx hb d_Sht_row_23 (by decide) ?_
      refine r_wn_Sht hx hb hml hown hK hl.1 hS ⟨Nat.le_of_ble_eq_true rfl, Nat.le_of_ble_eq_true rfl⟩ ⟨Nat.le_of_ble_eq_true rfl, Nat.le_of_ble_eq_true rfl⟩ rfl kc_m100 kc_100  d_Sht_row_25 (Nat.le_of_ble_eq_true rfl) (fun locs hS => ?_)
      refine b_bool_eq (tgt := 45) hx hb d_Sht_row_28 (by decide) (fun c_3 => ?_) (fun c_3 => ?_)
      · have hc_3 := of_decide_eq_false c_3
        refine lv_iconst (v := 0) hx hb d_Sht_row_45 (by decide) ?_
        refine e_i hx hb hr hlk hQ hS d_Sht_row_46 ?_
        have hb9 : ¬ q_row F xt.toInt xa.toInt xb.toInt := fun h => by obtain ⟨h1, h2, h3, h4⟩ := h; omega
        exact ⟨_, rfl, Or.inl ⟨hb9, kc_0, CQ.of hCP0 hP⟩⟩
      · have hc_3 := of_decide_eq_true c_3
        refine lv_aload_n hx hb d_Sht_row_31 rfl (lv_at hl 0 rfl) ?_
        refine w_gf hx hb hK i_Sht hown hP (hNm 0 (by omega)) hSR.1 rfl 4 (by decide) t_89 rfl rfl d_Sht_row_32 ?_
        refine lv_iload_n hx hb d_Sht_row_35 rfl (lv_at hl 1 rfl) ?_
        refine w_ald hx hb hK hP (hNm 2 (by omega)) hc2 rfl (xt.toInt.toNat) hxt (by omega) (show xt.toInt.toNat < 3 by omega) (if_pos (by omega)) d_Sht_row_36 ?_
        refine w_gfN hx hb hK i_Rows hown hP (hNm _ (by omega)) hRt.1 rfl 2 (by decide) t_76 rfl rfl d_Sht_row_37 ?_
        refine lv_bipush (v := 10) hx hb d_Sht_row_40 (by decide) ?_
        refine b_icmp_ne (tgt := 47) hx hb d_Sht_row_42 (by decide) hr10 kc_10 (fun c_4 => ?_) (fun c_4 => ?_)
        · refine lv_aload_n hx hb d_Sht_row_47 rfl (lv_at hl 0 rfl) ?_
          refine w_gf hx hb hK i_Sht hown hP (hNm 0 (by omega)) hSR.1 rfl 4 (by decide) t_89 rfl rfl d_Sht_row_48 ?_
          refine lv_iload_n hx hb d_Sht_row_51 rfl (lv_at hl 1 rfl) ?_
          refine w_ald hx hb hK hP (hNm 2 (by omega)) hc2 rfl (xt.toInt.toNat) hxt (by omega) (show xt.toInt.toNat < 3 by omega) (if_pos (by omega)) d_Sht_row_52 ?_
          refine w_gfN hx hb hK i_Rows hown hP (hNm _ (by omega)) hRt.1 rfl 0 (by decide) t_71 rfl rfl d_Sht_row_53 ?_
          refine lv_aload_n hx hb d_Sht_row_56 rfl (lv_at hl 0 rfl) ?_
          refine w_gf hx hb hK i_Sht hown hP (hNm 0 (by omega)) hSR.1 rfl 4 (by decide) t_89 rfl rfl d_Sht_row_57 ?_
          refine lv_iload_n hx hb d_Sht_row_60 rfl (lv_at hl 1 rfl) ?_
          refine w_ald hx hb hK hP (hNm 2 (by omega)) hc2 rfl (xt.toInt.toNat) hxt (by omega) (show xt.toInt.toNat < 3 by omega) (if_pos (by omega)) d_Sht_row_61 ?_
          refine w_gfN hx hb hK i_Rows hown hP (hNm _ (by omega)) hRt.1 rfl 2 (by decide) t_76 rfl rfl d_Sht_row_62 ?_
          refine lv_iload_n hx hb d_Sht_row_65 rfl (lv_at hl 2 rfl) ?_
          refine w_st hx hb hK hi hP hS wA_mem (hNm _ (by omega)) hRt.2.1 ((F 10 xt.toInt.toNat).toInt.toNat) hr10 (by omega) (show (F 10 xt.toInt.toNat).toInt.toNat < 10 by omega) d_Sht_row_66 (fun H locs hP hS => ?_)
          obtain ⟨cn_5, ecn_5⟩ : ∃ q : Nat → va_E, q = va_up cn ((47 + 3 * xt.toInt.toNat) + 1) (.inl (cA 0, 10, .inl (upd (fun k => F 11 (10 * xt.toInt.toNat + k)) (F 10 xt.toInt.toNat).toInt.toNat xa))) := ⟨_, rfl⟩
          have hP : va_P D classes (wl N adr cn_5) H := by rw [ecn_5]; exact hP
          have ho_5_6 : cn_5 0 = .inr (1, [.ref (adr 8), .int (x 1), .ref (adr 1), .int (x 3), .ref (adr 2), .ref (adr 3), .ref (adr 4), .ref (adr 5), .int (x 8), .int (x 9), .ref (adr 11), .int (x 11), .ref (adr 6), .int (x 13), .int (x 14), .int (x 15), .int (bi dn), .ref (adr 7), .int (x 18)]) := by rw [ecn_5, va_up_ne _ _ (by omega)]; exact hSR.1
          have ho_5_7 : cn_5 1 = .inl (cA 3, 12, .inr (.inr (.inr (.inr (fun k => if k < mm then some (adr (56 + k)) else none))))) := by rw [ecn_5, va_up_ne _ _ (by omega)]; exact hSR.2.1
          have ho_5_8 : cn_5 3 = .inl (cA 0, 12, .inl (F 14)) := by rw [ecn_5, va_up_ne _ _ (by omega)]; exact hc3
          have ho_5_9 : cn_5 4 = .inl (cA 0, 12, .inl (F 15)) := by rw [ecn_5, va_up_ne _ _ (by omega)]; exact hc4
          have ho_5_10 : cn_5 5 = .inl (cA 0, 12, .inl (F 16)) := by rw [ecn_5, va_up_ne _ _ (by omega)]; exact hc5
          have ho_5_11 : cn_5 7 = .inl (cA 0, 10, .inl (F 33)) := by rw [ecn_5, va_up_ne _ _ (by omega)]; exact hc7
          have ho_5_12 : cn_5 6 = .inl (cA 5, 11, .inr (.inr (.inr (.inr (fun k => if k < 11 then some (adr (14 + 3 * k)) else none))))) := by rw [ecn_5, va_up_ne _ _ (by omega)]; exact hc6
          have ho_5_13 : cn_5 2 = .inl (cA 4, 3, .inr (.inr (.inr (.inr (fun k => if k < 3 then some (adr (47 + 3 * k)) else none))))) := by rw [ecn_5, va_up_ne _ _ (by omega)]; exact hc2
          have ho_5_14 : cn_5 (47 + 3 * xt.toInt.toNat) = .inr (3, [.ref (adr ((47 + 3 * xt.toInt.toNat) + 1)), .ref (adr ((47 + 3 * xt.toInt.toNat) + 2)), .int (F 10 xt.toInt.toNat)]) := by rw [ecn_5, va_up_ne _ _ (by omega)]; exact hRt.1
          have ho_5_15 : cn_5 ((47 + 3 * xt.toInt.toNat) + 1) = .inl (cA 0, 10, .inl (upd (fun k => F 11 (10 * xt.toInt.toNat + k)) (F 10 xt.toInt.toNat).toInt.toNat xa)) := by rw [ecn_5]; exact va_up_self _ _ _
          have ho_5_16 : cn_5 ((47 + 3 * xt.toInt.toNat) + 2) = .inl (cA 0, 10, .inl (fun k => F 12 (10 * xt.toInt.toNat + k))) := by rw [ecn_5, va_up_ne _ _ (by omega)]; exact hRt.2.2
          refine lv_aload_n hx hb d_Sht_row_67 rfl (lv_at hl 0 rfl) ?_
          refine w_gf hx hb hK i_Sht hown hP (hNm 0 (by omega)) ho_5_6 rfl 4 (by decide) t_89 rfl rfl d_Sht_row_68 ?_
          refine lv_iload_n hx hb d_Sht_row_71 rfl (lv_at hl 1 rfl) ?_
          refine w_ald hx hb hK hP (hNm 2 (by omega)) ho_5_13 rfl (xt.toInt.toNat) hxt (by omega) (show xt.toInt.toNat < 3 by omega) (if_pos (by omega)) d_Sht_row_72 ?_
          refine w_gfN hx hb hK i_Rows hown hP (hNm _ (by omega)) ho_5_14 rfl 1 (by decide) t_74 rfl rfl d_Sht_row_73 ?_
          refine lv_aload_n hx hb d_Sht_row_76 rfl (lv_at hl 0 rfl) ?_
          refine w_gf hx hb hK i_Sht hown hP (hNm 0 (by omega)) ho_5_6 rfl 4 (by decide) t_89 rfl rfl d_Sht_row_77 ?_
          refine lv_iload_n hx hb d_Sht_row_80 rfl (lv_at hl 1 rfl) ?_
          refine w_ald hx hb hK hP (hNm 2 (by omega)) ho_5_13 rfl (xt.toInt.toNat) hxt (by omega) (show xt.toInt.toNat < 3 by omega) (if_pos (by omega)) d_Sht_row_81 ?_
          refine w_gfN hx hb hK i_Rows hown hP (hNm _ (by omega)) ho_5_14 rfl 2 (by decide) t_76 rfl rfl d_Sht_row_82 ?_
          refine lv_iload_n hx hb d_Sht_row_85 rfl (lv_at hl 3 rfl) ?_
          refine w_st hx hb hK hi hP hS wA_mem (hNm _ (by omega)) ho_5_16 ((F 10 xt.toInt.toNat).toInt.toNat) hr10 (by omega) (show (F 10 xt.toInt.toNat).toInt.toNat < 10 by omega) d_Sht_row_86 (fun H locs hP hS => ?_)
          obtain ⟨cn_17, ecn_17⟩ : ∃ q : Nat → va_E, q = va_up cn_5 ((47 + 3 * xt.toInt.toNat) + 2) (.inl (cA 0, 10, .inl (upd (fun k => F 12 (10 * xt.toInt.toNat + k)) (F 10 xt.toInt.toNat).toInt.toNat xb))) := ⟨_, rfl⟩
          have hP : va_P D classes (wl N adr cn_17) H := by rw [ecn_17]; exact hP
          have ho_17_18 : cn_17 0 = .inr (1, [.ref (adr 8), .int (x 1), .ref (adr 1), .int (x 3), .ref (adr 2), .ref (adr 3), .ref (adr 4), .ref (adr 5), .int (x 8), .int (x 9), .ref (adr 11), .int (x 11), .ref (adr 6), .int (x 13), .int (x 14), .int (x 15), .int (bi dn), .ref (adr 7), .int (x 18)]) := by rw [ecn_17, va_up_ne _ _ (by omega)]; exact ho_5_6
          have ho_17_19 : cn_17 1 = .inl (cA 3, 12, .inr (.inr (.inr (.inr (fun k => if k < mm then some (adr (56 + k)) else none))))) := by rw [ecn_17, va_up_ne _ _ (by omega)]; exact ho_5_7
          have ho_17_20 : cn_17 3 = .inl (cA 0, 12, .inl (F 14)) := by rw [ecn_17, va_up_ne _ _ (by omega)]; exact ho_5_8
          have ho_17_21 : cn_17 4 = .inl (cA 0, 12, .inl (F 15)) := by rw [ecn_17, va_up_ne _ _ (by omega)]; exact ho_5_9
          have ho_17_22 : cn_17 5 = .inl (cA 0, 12, .inl (F 16)) := by rw [ecn_17, va_up_ne _ _ (by omega)]; exact ho_5_10
          have ho_17_23 : cn_17 7 = .inl (cA 0, 10, .inl (F 33)) := by rw [ecn_17, va_up_ne _ _ (by omega)]; exact ho_5_11
          have ho_17_24 : cn_17 6 = .inl (cA 5, 11, .inr (.inr (.inr (.inr (fun k => if k < 11 then some (adr (14 + 3 * k)) else none))))) := by rw [ecn_17, va_up_ne _ _ (by omega)]; exact ho_5_12
          have ho_17_25 : cn_17 2 = .inl (cA 4, 3, .inr (.inr (.inr (.inr (fun k => if k < 3 then some (adr (47 + 3 * k)) else none))))) := by rw [ecn_17, va_up_ne _ _ (by omega)]; exact ho_5_13
          have ho_17_26 : cn_17 (47 + 3 * xt.toInt.toNat) = .inr (3, [.ref (adr ((47 + 3 * xt.toInt.toNat) + 1)), .ref (adr ((47 + 3 * xt.toInt.toNat) + 2)), .int (F 10 xt.toInt.toNat)]) := by rw [ecn_17, va_up_ne _ _ (by omega)]; exact ho_5_14
          have ho_17_27 : cn_17 ((47 + 3 * xt.toInt.toNat) + 1) = .inl (cA 0, 10, .inl (upd (fun k => F 11 (10 * xt.toInt.toNat + k)) (F 10 xt.toInt.toNat).toInt.toNat xa)) := by rw [ecn_17, va_up_ne _ _ (by omega)]; exact ho_5_15
          have ho_17_28 : cn_17 ((47 + 3 * xt.toInt.toNat) + 2) = .inl (cA 0, 10, .inl (upd (fun k => F 12 (10 * xt.toInt.toNat + k)) (F 10 xt.toInt.toNat).toInt.toNat xb)) := by rw [ecn_17]; exact va_up_self _ _ _
          refine lv_aload_n hx hb d_Sht_row_87 rfl (lv_at hl 0 rfl) ?_
          refine w_gf hx hb hK i_Sht hown hP (hNm 0 (by omega)) ho_17_18 rfl 4 (by decide) t_89 rfl rfl d_Sht_row_88 ?_
          refine lv_iload_n hx hb d_Sht_row_91 rfl (lv_at hl 1 rfl) ?_
          refine w_ald hx hb hK hP (hNm 2 (by omega)) ho_17_25 rfl (xt.toInt.toNat) hxt (by omega) (show xt.toInt.toNat < 3 by omega) (if_pos (by omega)) d_Sht_row_92 ?_
          refine lv_dup hx hb d_Sht_row_93 rfl ?_
          refine w_gfN hx hb hK i_Rows hown hP (hNm _ (by omega)) ho_17_26 rfl 2 (by decide) t_76 rfl rfl d_Sht_row_94 ?_
          refine lv_iconst (v := 1) hx hb d_Sht_row_97 (by decide) ?_
          refine x_add hx hb d_Sht_row_98 hr10 kc_1 (by omega) (fun z_29 tz_29 => ?_)
          refine lv_dup_x1 hx hb d_Sht_row_99 rfl rfl ?_
          refine w_pfN hx hb hK i_Rows t_Rows t_Rows_ok n_Rows hown hi hP hS wA_mem (hNm _ (by omega)) ho_17_26 rfl 2 (by decide) t_76 rfl rfl rfl rfl rfl d_Sht_row_100 (fun H locs hP hS => ?_)
          obtain ⟨cn_30, ecn_30⟩ : ∃ q : Nat → va_E, q = va_up cn_17 (47 + 3 * xt.toInt.toNat) (.inr (3, [.ref (adr ((47 + 3 * xt.toInt.toNat) + 1)), .ref (adr ((47 + 3 * xt.toInt.toNat) + 2)), .int z_29])) := ⟨_, rfl⟩
          have hP : va_P D classes (wl N adr cn_30) H := by rw [ecn_30]; exact hP
          have ho_30_31 : cn_30 0 = .inr (1, [.ref (adr 8), .int (x 1), .ref (adr 1), .int (x 3), .ref (adr 2), .ref (adr 3), .ref (adr 4), .ref (adr 5), .int (x 8), .int (x 9), .ref (adr 11), .int (x 11), .ref (adr 6), .int (x 13), .int (x 14), .int (x 15), .int (bi dn), .ref (adr 7), .int (x 18)]) := by rw [ecn_30, va_up_ne _ _ (by omega)]; exact ho_17_18
          have ho_30_32 : cn_30 1 = .inl (cA 3, 12, .inr (.inr (.inr (.inr (fun k => if k < mm then some (adr (56 + k)) else none))))) := by rw [ecn_30, va_up_ne _ _ (by omega)]; exact ho_17_19
          have ho_30_33 : cn_30 3 = .inl (cA 0, 12, .inl (F 14)) := by rw [ecn_30, va_up_ne _ _ (by omega)]; exact ho_17_20
          have ho_30_34 : cn_30 4 = .inl (cA 0, 12, .inl (F 15)) := by rw [ecn_30, va_up_ne _ _ (by omega)]; exact ho_17_21
          have ho_30_35 : cn_30 5 = .inl (cA 0, 12, .inl (F 16)) := by rw [ecn_30, va_up_ne _ _ (by omega)]; exact ho_17_22
          have ho_30_36 : cn_30 7 = .inl (cA 0, 10, .inl (F 33)) := by rw [ecn_30, va_up_ne _ _ (by omega)]; exact ho_17_23
          have ho_30_37 : cn_30 6 = .inl (cA 5, 11, .inr (.inr (.inr (.inr (fun k => if k < 11 then some (adr (14 + 3 * k)) else none))))) := by rw [ecn_30, va_up_ne _ _ (by omega)]; exact ho_17_24
          have ho_30_38 : cn_30 2 = .inl (cA 4, 3, .inr (.inr (.inr (.inr (fun k => if k < 3 then some (adr (47 + 3 * k)) else none))))) := by rw [ecn_30, va_up_ne _ _ (by omega)]; exact ho_17_25
          have ho_30_39 : cn_30 (47 + 3 * xt.toInt.toNat) = .inr (3, [.ref (adr ((47 + 3 * xt.toInt.toNat) + 1)), .ref (adr ((47 + 3 * xt.toInt.toNat) + 2)), .int z_29]) := by rw [ecn_30]; exact va_up_self _ _ _
          have ho_30_40 : cn_30 ((47 + 3 * xt.toInt.toNat) + 1) = .inl (cA 0, 10, .inl (upd (fun k => F 11 (10 * xt.toInt.toNat + k)) (F 10 xt.toInt.toNat).toInt.toNat xa)) := by rw [ecn_30, va_up_ne _ _ (by omega)]; exact ho_17_27
          have ho_30_41 : cn_30 ((47 + 3 * xt.toInt.toNat) + 2) = .inl (cA 0, 10, .inl (upd (fun k => F 12 (10 * xt.toInt.toNat + k)) (F 10 xt.toInt.toNat).toInt.toNat xb)) := by rw [ecn_30, va_up_ne _ _ (by omega)]; exact ho_17_28
          refine e_i hx hb hr hlk hQ hS d_Sht_row_103 ?_
          have hb9 : q_row F xt.toInt xa.toInt xb.toInt := ⟨by omega, by omega, by omega, by omega⟩
          have ez := i32_of (show z_29.toInt = (F 10 xt.toInt.toNat).toInt + 1 by omega)
          have hR9 := CP.row (t := xt.toInt.toNat) (xa := xa) (xb := xb) (v := z_29) (G := G_row F xt.toInt xa xb) hCP0 (by omega) (by omega) ez ho_30_39 ho_30_40 ho_30_41 (fun k a0 a1 a2 => ((congrFun ecn_30 k).trans ((va_up_ne _ _ a0).trans ((congrFun ecn_17 k).trans ((va_up_ne _ _ a2).trans ((congrFun ecn_5 k).trans ((va_up_ne _ _ a1).trans rfl))))))) (by rw [ez]; rfl)
          exact ⟨_, rfl, Or.inr ⟨hb9, by omega, CQ.of hR9.1 (hR9.2 _ _ _ hP)⟩⟩
        · refine lv_iconst (v := 0) hx hb d_Sht_row_45 (by decide) ?_
          refine e_i hx hb hr hlk hQ hS d_Sht_row_46 ?_
          have hb9 : ¬ q_row F xt.toInt xa.toInt xb.toInt := fun h => by obtain ⟨h1, h2, h3, h4⟩ := h; omega
          exact ⟨_, rfl, Or.inl ⟨hb9, kc_0, CQ.of hCP0 hP⟩⟩
theorem d_Sht_force_0 : decode b_Sht_force 0 = .ok (.iload_n 1, 1) := by decide +kernel
theorem d_Sht_force_1 : decode b_Sht_force 1 = .ok (.iconst 0, 1) := by decide +kernel
theorem d_Sht_force_2 : decode b_Sht_force 2 = .ok (.aload_n 0, 1) := by decide +kernel
theorem d_Sht_force_3 : decode b_Sht_force 3 = .ok (.getfield 147, 3) := by decide +kernel
theorem d_Sht_force_6 : decode b_Sht_force 6 = .ok (.iconst 1, 1) := by decide +kernel
theorem d_Sht_force_7 : decode b_Sht_force 7 = .ok (.isub, 1) := by decide +kernel
theorem d_Sht_force_8 : decode b_Sht_force 8 = .ok (.invokestatic 59, 3) := by decide +kernel
theorem d_Sht_force_11 : decode b_Sht_force 11 = .ok (.ifCond .eq 24, 3) := by decide +kernel
theorem d_Sht_force_14 : decode b_Sht_force 14 = .ok (.aload_n 0, 1) := by decide +kernel
theorem d_Sht_force_15 : decode b_Sht_force 15 = .ok (.getfield 150, 3) := by decide +kernel
theorem d_Sht_force_18 : decode b_Sht_force 18 = .ok (.iload_n 1, 1) := by decide +kernel
theorem d_Sht_force_19 : decode b_Sht_force 19 = .ok (.ishr, 1) := by decide +kernel
theorem d_Sht_force_20 : decode b_Sht_force 20 = .ok (.iconst 1, 1) := by decide +kernel
theorem d_Sht_force_21 : decode b_Sht_force 21 = .ok (.iand, 1) := by decide +kernel
theorem d_Sht_force_22 : decode b_Sht_force 22 = .ok (.iconst 1, 1) := by decide +kernel
theorem d_Sht_force_23 : decode b_Sht_force 23 = .ok (.if_icmp .ne 7, 3) := by decide +kernel
theorem d_Sht_force_26 : decode b_Sht_force 26 = .ok (.iconst 1, 1) := by decide +kernel
theorem d_Sht_force_27 : decode b_Sht_force 27 = .ok (.goto 4, 3) := by decide +kernel
theorem d_Sht_force_30 : decode b_Sht_force 30 = .ok (.iconst 0, 1) := by decide +kernel
theorem d_Sht_force_31 : decode b_Sht_force 31 = .ok (.iload_n 2, 1) := by decide +kernel
theorem d_Sht_force_32 : decode b_Sht_force 32 = .ok (.if_icmp .ne 5, 3) := by decide +kernel
theorem d_Sht_force_35 : decode b_Sht_force 35 = .ok (.iconst 0, 1) := by decide +kernel
theorem d_Sht_force_36 : decode b_Sht_force 36 = .ok (.ireturn, 1) := by decide +kernel
theorem d_Sht_force_37 : decode b_Sht_force 37 = .ok (.aload_n 0, 1) := by decide +kernel
theorem d_Sht_force_38 : decode b_Sht_force 38 = .ok (.dup, 1) := by decide +kernel
theorem d_Sht_force_39 : decode b_Sht_force 39 = .ok (.getfield 150, 3) := by decide +kernel
theorem d_Sht_force_42 : decode b_Sht_force 42 = .ok (.iconst 1, 1) := by decide +kernel
theorem d_Sht_force_43 : decode b_Sht_force 43 = .ok (.iload_n 1, 1) := by decide +kernel
theorem d_Sht_force_44 : decode b_Sht_force 44 = .ok (.ishl, 1) := by decide +kernel
theorem d_Sht_force_45 : decode b_Sht_force 45 = .ok (.ixor, 1) := by decide +kernel
theorem d_Sht_force_46 : decode b_Sht_force 46 = .ok (.putfield 150, 3) := by decide +kernel
theorem d_Sht_force_49 : decode b_Sht_force 49 = .ok (.iconst 1, 1) := by decide +kernel
theorem d_Sht_force_50 : decode b_Sht_force 50 = .ok (.ireturn, 1) := by decide +kernel
set_option maxHeartbeats 4000000 in
set_option maxRecDepth 20000 in
theorem k_Sht_force (l : Launch) (D : va_G) (cA : Nat → ClassId) (adr : Nat → Nat) (N : List Nat) (hi : wI N adr) (cn : Nat → va_E) (F : Nat → Nat → Int32) (I : Nat → Int32) (nn mm en mk0 : Nat) (x : Nat → Int32) (dn : Bool) (hCP : CP cA adr cn I F mm x dn) (hNm : ∀ k, k < 56 + mm → k ∈ N) (hWF : WF I F nn mm en mk0) (xk : Int32) (gd : Bool) : Ct l y_Sht_force b_Sht_force 3 (some .boolean) 3 D cA [.ref (adr 0), .int xk, .int (bi gd)] (fun H => va_P D classes (wl N adr cn) H) (fun r H => r = some (.int (bi (q_force en mk0 xk.toInt gd))) ∧ CQ D cA adr N (J_force I en mk0 xk.toInt gd) F mm H) (wA N adr) := by
  refine Ct.mk (by decide) (Nat.le_of_ble_eq_true rfl) ?_
  intro p e s m args below meth c Q H locs ls hx hb hr hml hlk hown hin hK hQ hS hP hl
  have hl : lv_has ls 3 [(0, .ref (adr 0)), (1, .int xk), (2, .int (bi gd))] := hl
  have hown : s.vm.findClass "RangeSheet" = some m.cls := hown
  have hWF0 := hWF
  have hCP0 := hCP
  obtain ⟨hW, hE, hen, ⟨hmk, hmke⟩, htd, hsp, hsd, hset, hgd⟩ := hWF
  obtain ⟨hSR, ⟨hx1, hx3, hx8, hx9, hx11, hx14, hx18⟩, ⟨hc2, hc3, hc4, hc5, hc6, hc7⟩, ⟨cf, hBf⟩, ⟨fn0, gn0, cn0, hBn, hBne⟩, hBx⟩ := hCP
  obtain ⟨f, g, ch, hB⟩ := hBx 0 (by omega)
  have hB : BP cA adr cn 14 f g ch := hB
  have hn10 := hW.1
  have hm12 := hW.2.1
  have hen12 := hE.1
  have hv1 : (x 1).toInt = (nn : Int) := by rw [hx1]; exact hW.2.2.1
  have hv8 : (x 8).toInt = (en : Int) := by rw [hx8]; exact hen
  have hv9 : (x 9).toInt = (mk0 : Int) := by rw [hx9]; exact hmk
  have hN0 : 0 ∈ N := hNm 0 (by omega)
  refine lv_iload_n hx hb d_Sht_force_0 rfl (lv_at hl 1 rfl) ?_
  refine lv_iconst (v := 0) hx hb d_Sht_force_1 (by decide) ?_
  refine lv_aload_n hx hb d_Sht_force_2 rfl (lv_at hl 0 rfl) ?_
  refine w_gf hx hb hK i_Sht hown hP (hNm 0 (by omega)) hSR.1 rfl 8 (by decide) t_93 rfl rfl d_Sht_force_3 ?_
  refine lv_iconst (v := 1) hx hb d_Sht_force_6 (by decide) ?_
  refine x_sub hx hb d_Sht_force_7 hv8 kc_1 (by omega) (fun z_1 tz_1 => ?_)
  refine r_wn_Sht hx hb hml hown hK hl.1 hS ⟨Nat.le_of_ble_eq_true rfl, Nat.le_of_ble_eq_true rfl⟩ ⟨Nat.le_of_ble_eq_true rfl, Nat.le_of_ble_eq_true rfl⟩ rfl kc_0 tz_1  d_Sht_force_8 (Nat.le_of_ble_eq_true rfl) (fun locs hS => ?_)
  refine b_bool_eq (tgt := 35) hx hb d_Sht_force_11 (by decide) (fun c_2 => ?_) (fun c_2 => ?_)
  · have hc_2 := of_decide_eq_false c_2
    refine lv_iconst (v := 0) hx hb d_Sht_force_35 (by decide) ?_
    refine W.eq (g2 := F0 m 36 ls [.int (bi false)]) rfl ?_
    refine e_z hx hb hr hlk hQ hS d_Sht_force_36 ?_
    have hb9 : q_force en mk0 xk.toInt gd = false := decide_eq_false (fun h => by omega)
    unfold J_force; rw [hb9]; exact ⟨rfl, CQ.of hCP0 hP⟩
  · have hc_2 := of_decide_eq_true c_2
    have hkk : xk.toInt = (xk.toInt.toNat : Int) := by omega
    have hpk := Nat.pow_le_pow_right (n := 2) (by decide) (show xk.toInt.toNat ≤ 12 by omega)
    have hpe := Nat.pow_le_pow_right (n := 2) (by decide) hen12
    refine lv_aload_n hx hb d_Sht_force_14 rfl (lv_at hl 0 rfl) ?_
    refine w_gf hx hb hK i_Sht hown hP (hNm 0 (by omega)) hSR.1 rfl 9 (by decide) t_94 rfl rfl d_Sht_force_15 ?_
    refine lv_iload_n hx hb d_Sht_force_18 rfl (lv_at hl 1 rfl) ?_
    refine lv_ishr hx hb d_Sht_force_19 ?_
    refine lv_iconst (v := 1) hx hb d_Sht_force_20 (by decide) ?_
    refine x_bit hx hb d_Sht_force_21 hv9 hkk (by omega) (by omega) ?_
    refine lv_iconst (v := 1) hx hb d_Sht_force_22 (by decide) ?_
    have K_203 : ∀ (b_203_0 : Bool), (b_203_0 = true ↔ (hasN (mk0 : Int) (xk.toInt.toNat : Int)) = true) → W p l e (rl 3) s m args below meth c H locs 0 0 Q (F0 m 31 ls [.int (bi b_203_0)]) := by
      intro b_203_0 hb_203_0
      have hbb : mk0.testBit xk.toInt.toNat = b_203_0 := bb_of (by have q := hb_203_0; rw [hasN_nat] at q; exact q)
      refine lv_iload_n hx hb d_Sht_force_31 rfl (lv_at hl 2 rfl) ?_
      refine bb_icmp_ne (tgt := 37) hx hb d_Sht_force_32 (by decide) (fun c_204 => ?_) (fun c_204 => ?_)
      · refine lv_aload_n hx hb d_Sht_force_37 rfl (lv_at hl 0 rfl) ?_
        refine lv_dup hx hb d_Sht_force_38 rfl ?_
        refine w_gf hx hb hK i_Sht hown hP (hNm 0 (by omega)) hSR.1 rfl 9 (by decide) t_94 rfl rfl d_Sht_force_39 ?_
        refine lv_iconst (v := 1) hx hb d_Sht_force_42 (by decide) ?_
        refine lv_iload_n hx hb d_Sht_force_43 rfl (lv_at hl 1 rfl) ?_
        refine x_shl1 hx hb d_Sht_force_44 (xk.toInt.toNat) hkk (by omega) (by omega) (fun z_205 tz_205 => ?_)
        refine x_xorN hx hb d_Sht_force_45 (mk0) ((2 ^ xk.toInt.toNat)) hv9 tz_205 (by omega) (by omega) (fun z_206 tz_206 => ?_)
        refine w_pf hx hb hK i_Sht t_Sht t_Sht_ok n_Sht hown hi hP hS wA_mem (hNm 0 (by omega)) hSR.1 rfl 9 (by decide) t_94 rfl rfl rfl rfl rfl d_Sht_force_46 (fun H locs hP hS => ?_)
        obtain ⟨cn_207, ecn_207⟩ : ∃ q : Nat → va_E, q = va_up cn 0 (.inr (1, [.ref (adr 8), .int (x 1), .ref (adr 1), .int (x 3), .ref (adr 2), .ref (adr 3), .ref (adr 4), .ref (adr 5), .int (x 8), .int z_206, .ref (adr 11), .int (x 11), .ref (adr 6), .int (x 13), .int (x 14), .int (x 15), .int (bi dn), .ref (adr 7), .int (x 18)])) := ⟨_, rfl⟩
        have hP : va_P D classes (wl N adr cn_207) H := by rw [ecn_207]; exact hP
        have ho_207_208 : cn_207 0 = .inr (1, [.ref (adr 8), .int (x 1), .ref (adr 1), .int (x 3), .ref (adr 2), .ref (adr 3), .ref (adr 4), .ref (adr 5), .int (x 8), .int z_206, .ref (adr 11), .int (x 11), .ref (adr 6), .int (x 13), .int (x 14), .int (x 15), .int (bi dn), .ref (adr 7), .int (x 18)]) := by rw [ecn_207]; exact va_up_self _ _ _
        have ho_207_209 : cn_207 1 = .inl (cA 3, 12, .inr (.inr (.inr (.inr (fun k => if k < mm then some (adr (56 + k)) else none))))) := by rw [ecn_207, va_up_ne _ _ (by omega)]; exact hSR.2.1
        have ho_207_210 : cn_207 3 = .inl (cA 0, 12, .inl (F 14)) := by rw [ecn_207, va_up_ne _ _ (by omega)]; exact hc3
        have ho_207_211 : cn_207 4 = .inl (cA 0, 12, .inl (F 15)) := by rw [ecn_207, va_up_ne _ _ (by omega)]; exact hc4
        have ho_207_212 : cn_207 5 = .inl (cA 0, 12, .inl (F 16)) := by rw [ecn_207, va_up_ne _ _ (by omega)]; exact hc5
        have ho_207_213 : cn_207 7 = .inl (cA 0, 10, .inl (F 33)) := by rw [ecn_207, va_up_ne _ _ (by omega)]; exact hc7
        have ho_207_214 : cn_207 6 = .inl (cA 5, 11, .inr (.inr (.inr (.inr (fun k => if k < 11 then some (adr (14 + 3 * k)) else none))))) := by rw [ecn_207, va_up_ne _ _ (by omega)]; exact hc6
        refine lv_iconst (v := 1) hx hb d_Sht_force_49 (by decide) ?_
        refine W.eq (g2 := F0 m 50 ls [.int (bi true)]) rfl ?_
        refine e_z hx hb hr hlk hQ hS d_Sht_force_50 ?_
        have hb9 : q_force en mk0 xk.toInt gd = true := decide_eq_true ⟨by omega, by omega, fun h => c_204 (hbb.symm.trans h)⟩
        have e9 := i32_of tz_206
        have hkk9 := (show ∀ k, k ≠ 0 → cn_207 k = cn k from (fun k a0 => ((congrFun ecn_207 k).trans ((va_up_ne _ _ a0).trans rfl))))
        unfold J_force; rw [hb9, if_pos rfl]; exact ⟨rfl, CQ.of (CP.set (y := va_up x 9 z_206) (G := F) hCP0 ho_207_208 ⟨hx1, hx3, hx8, e9, hx11, hx14, hx18⟩ ((hkk9 3 (by omega)).trans hc3) ((hkk9 4 (by omega)).trans hc4) ((hkk9 5 (by omega)).trans hc5) ((hkk9 7 (by omega)).trans hc7) rfl rfl (fun k a _ _ _ _ => hkk9 k a) (fun _ _ _ _ _ => rfl)) hP⟩
      · refine lv_iconst (v := 0) hx hb d_Sht_force_35 (by decide) ?_
        refine W.eq (g2 := F0 m 36 ls [.int (bi false)]) rfl ?_
        refine e_z hx hb hr hlk hQ hS d_Sht_force_36 ?_
        have hb9 : q_force en mk0 xk.toInt gd = false := decide_eq_false (fun h => by have h2 := h.2.2; exact h2 (hbb.trans c_204))
        unfold J_force; rw [hb9]; exact ⟨rfl, CQ.of hCP0 hP⟩
    refine b1_icmp_ne (tgt := 30) hx hb d_Sht_force_23 (by decide) (fun c_215 => ?_) (fun c_215 => ?_)
    · refine lv_iconst (v := 0) hx hb d_Sht_force_30 (by decide) ?_
      exact K_203 false ⟨fun h => absurd h (by decide), fun h => absurd h (by first | exact c_215 | (rw [c_215]; decide) | first | omega | (simp [c_215]; done) | (simp [c_215]; omega) | (simp only [decide_eq_true_eq, decide_eq_false_iff_not]; omega))⟩
    · refine lv_iconst (v := 1) hx hb d_Sht_force_26 (by decide) ?_
      refine lv_goto (tgt := 31) hx hb d_Sht_force_27 (by decide) ?_
      exact K_203 true ⟨fun _ => by first | exact c_215 | (rw [c_215]; decide) | first | omega | (simp [c_215]; done) | (simp [c_215]; omega) | (simp only [decide_eq_true_eq, decide_eq_false_iff_not]; omega), fun _ => rfl⟩
