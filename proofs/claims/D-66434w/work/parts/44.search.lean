/-! the search of the component -/
theorem ofN32 {s : Nat} (h : s ≤ 300) : (Int32.ofInt (s : Int)).toInt = (s : Int) := Int32.toInt_ofInt_of_le (by have : Int32.minValue.toInt = -2147483648 := rfl; omega) (by have : Int32.maxValue.toInt = 2147483647 := rfl; omega)
theorem J_fnd_ne {I : Nat → Int32} {r : Int × Nat × Bx} (h : ¬ r.1 = 1) : J_fnd I r = va_up I 31 (Int32.ofInt r.2.1) := by
  unfold J_fnd
  rw [if_neg h]
  funext k
  by_cases e : k = 32
  · subst e; rw [va_up_self, va_up_ne _ _ (by omega)]
  · rw [va_up_ne _ _ e]
theorem G_fnd_ne {F : Nat → Nat → Int32} {n : Nat} {r : Int × Nat × Bx} (h : ¬ r.1 = 1) : G_fnd F n r = F := by
  unfold G_fnd
  rw [if_neg h]
  funext k
  by_cases e : k = 33
  · subst e; rw [va_up_self]
  · rw [va_up_ne _ _ e]
/-- the sheet's numbers, its entries and its setting change -/
theorem CP.set {cA : Nat → ClassId} {adr : Nat → Nat} {cn cn' : Nat → va_E} {I J : Nat → Int32} {F G : Nat → Nat → Int32} {mm : Nat} {x y : Nat → Int32} {dn dm : Bool} (h : CP cA adr cn I F mm x dn) (h0 : cn' 0 = .inr (1, SF adr y dm)) (hy : y 1 = J 1 ∧ y 3 = J 4 ∧ y 8 = J 13 ∧ y 9 = J 17 ∧ y 11 = J 28 ∧ y 14 = J 31 ∧ y 18 = J 32) (h3 : cn' 3 = .inl (cA 0, 12, .inl (G 14))) (h4 : cn' 4 = .inl (cA 0, 12, .inl (G 15))) (h5 : cn' 5 = .inl (cA 0, 12, .inl (G 16))) (h7 : cn' 7 = .inl (cA 0, 10, .inl (G 33))) (e3 : y 3 = x 3) (e28 : J 28 = I 28) (hk : ∀ k, k ≠ 0 → k ≠ 3 → k ≠ 4 → k ≠ 5 → k ≠ 7 → cn' k = cn k) (hG : ∀ n, n ≠ 14 → n ≠ 15 → n ≠ 16 → n ≠ 33 → G n = F n) : CP cA adr cn' J G mm y dm := by
  obtain ⟨⟨r0, r1, r2, r3, r4⟩, -, ⟨a2, -, -, -, a6, -⟩, ⟨c8, b8⟩, ⟨f11, g11, c11, b11, e11⟩, hb⟩ := h
  have kB : ∀ a f g c, BP cA adr cn a f g c → 8 ≤ a → BP cA adr cn' a f g c := fun a f g c q hq => ⟨(hk a (by omega) (by omega) (by omega) (by omega) (by omega)).trans q.1, (hk (a + 1) (by omega) (by omega) (by omega) (by omega) (by omega)).trans q.2.1, (hk (a + 2) (by omega) (by omega) (by omega) (by omega) (by omega)).trans q.2.2⟩
  refine ⟨⟨h0, (hk 1 (by omega) (by omega) (by omega) (by omega) (by omega)).trans r1, by rw [e3]; exact r2, ?_, fun r hr => ?_⟩, hy, ⟨(hk 2 (by omega) (by omega) (by omega) (by omega) (by omega)).trans a2, h3, h4, h5, (hk 6 (by omega) (by omega) (by omega) (by omega) (by omega)).trans a6, h7⟩, ⟨c8, ?_⟩, ⟨f11, g11, c11, kB 11 _ _ _ b11 (by omega), fun k hk9 => ?_⟩, fun d hd => ?_⟩
  · have := r3.fr (cn' := cn') (fun k h1 h2 => hk k (by omega) (by omega) (by omega) (by omega) (by omega))
    unfold RPs at *
    rw [hG 10 (by omega) (by omega) (by omega) (by omega), hG 11 (by omega) (by omega) (by omega) (by omega), hG 12 (by omega) (by omega) (by omega) (by omega)]
    exact this
  · have := (r4 r hr).fr (cn' := cn') (hk _ (by omega) (by omega) (by omega) (by omega) (by omega))
    unfold RelAt gB at *
    rw [hG 5 (by omega) (by omega) (by omega) (by omega), hG 6 (by omega) (by omega) (by omega) (by omega), hG 7 (by omega) (by omega) (by omega) (by omega), hG 8 (by omega) (by omega) (by omega) (by omega), hG 9 (by omega) (by omega) (by omega) (by omega)]
    exact this
  · rw [hG 2 (by omega) (by omega) (by omega) (by omega), hG 3 (by omega) (by omega) (by omega) (by omega)]; exact kB 8 _ _ _ b8 (by omega)
  · rw [hG 29 (by omega) (by omega) (by omega) (by omega), hG 30 (by omega) (by omega) (by omega) (by omega)]
    exact e11 k (by rw [← e28]; exact hk9)
  · obtain ⟨f0, g0, c0, b0⟩ := hb d hd
    exact ⟨f0, g0, c0, kB _ _ _ _ b0 (by omega)⟩
/-- the state of a search at one depth -/
def SrD (cA : Nat → ClassId) (adr : Nat → Nat) (cn : Nat → va_E) (I : Nat → Int32) (F : Nat → Nat → Int32) (nn mm : Nat) (x : Nat → Int32) (dn : Bool) (lim : Nat) (T : Int × Nat × Bx) (rest : Nat → Int × Nat × Bx) (got : Int) : Prop :=
  (got = 0 ∧ ∃ s1 : Nat, s1 ≤ lim ∧ T = rest s1 ∧ CP cA adr cn (va_up I 31 (Int32.ofInt s1)) F mm x dn) ∨ (¬ got = 0 ∧ T.1 = got ∧ T.2.1 ≤ lim ∧ CP cA adr cn (J_fnd I T) (G_fnd F nn T) mm x dn)
theorem SrD.fin {cA : Nat → ClassId} {adr : Nat → Nat} {cn : Nat → va_E} {I : Nat → Int32} {F : Nat → Nat → Int32} {nn mm : Nat} {x : Nat → Int32} {dn : Bool} {lim : Nat} {T : Int × Nat × Bx} {rest : Nat → Int × Nat × Bx} {got : Int} (h : SrD cA adr cn I F nn mm x dn lim T rest got) (hg : ¬ got = 0 ∨ ∀ s, rest s = (0, s, bx0)) : got = T.1 ∧ CP cA adr cn (J_fnd I T) (G_fnd F nn T) mm x dn ∧ T.2.1 ≤ lim := by
  rcases h with ⟨g0, s1, h1, h2, h3⟩ | ⟨g0, h1, h2, h3⟩
  · rcases hg with q | q
    · exact absurd g0 q
    · rw [q] at h2
      subst h2
      refine ⟨g0, ?_, h1⟩
      rw [J_fnd_ne (show ¬ (0 : Int) = 1 by decide), G_fnd_ne (show ¬ (0 : Int) = 1 by decide)]
      exact h3
  · exact ⟨h1.symm, h3, h2⟩
theorem SrD.zero {cA : Nat → ClassId} {adr : Nat → Nat} {cn : Nat → va_E} {I : Nat → Int32} {F : Nat → Nat → Int32} {nn mm : Nat} {x : Nat → Int32} {dn : Bool} {lim : Nat} {T : Int × Nat × Bx} {rest : Nat → Int × Nat × Bx} {got : Int} (h : SrD cA adr cn I F nn mm x dn lim T rest got) (hg : got = 0) : ∃ s1 : Nat, s1 ≤ lim ∧ T = rest s1 ∧ CP cA adr cn (va_up I 31 (Int32.ofInt s1)) F mm x dn := by
  rcases h with h | h
  · exact h.2
  · exact absurd hg h.1
/-- behind a search one deeper -/
theorem SrD.deep {cA : Nat → ClassId} {adr : Nat → Nat} {cn : Nat → va_E} {I : Nat → Int32} {F : Nat → Nat → Int32} {nn mm : Nat} {x : Nat → Int32} {dn : Bool} {lim : Nat} {T R : Int × Nat × Bx} {rest : Nat → Int × Nat × Bx} {got : Int} (hg : got = R.1) (hT : T = if R.1 = 0 then rest R.2.1 else R) (hC : CP cA adr cn (J_fnd I R) (G_fnd F nn R) mm x dn) (hl : R.2.1 ≤ lim) : SrD cA adr cn I F nn mm x dn lim T rest got := by
  by_cases e : R.1 = 0
  · rw [if_pos e] at hT
    rw [J_fnd_ne (by omega), G_fnd_ne (by omega)] at hC
    exact Or.inl ⟨by omega, R.2.1, hl, hT, hC⟩
  · rw [if_neg e] at hT
    subst hT
    exact Or.inr ⟨by omega, by omega, hl, hC⟩
theorem tryL_none {st : Bx → Option Bx} {rec : Bx → Nat → Int × Nat × Bx} {lim : Nat} {ld : Int} {dn : Bool} {x : Bx} {k n i s : Nat} (hi : i < n) (hs : ¬ s = lim) (h : st (setB x k (vlu ld dn x k i)) = none) : tryL st rec lim ld dn x k (n - i) i s = tryL st rec lim ld dn x k (n - (i + 1)) (i + 1) (s + 1) := by
  rw [show n - i = (n - (i + 1)) + 1 by omega, tryL, if_neg hs, h]
theorem tryL_lim {st : Bx → Option Bx} {rec : Bx → Nat → Int × Nat × Bx} {lim : Nat} {ld : Int} {dn : Bool} {x : Bx} {k n i s : Nat} (hi : i < n) (hs : s = lim) : tryL st rec lim ld dn x k (n - i) i s = (-1000, s, bx0) := by
  rw [show n - i = (n - (i + 1)) + 1 by omega, tryL, if_pos hs]
theorem tryL_some {st : Bx → Option Bx} {rec : Bx → Nat → Int × Nat × Bx} {lim : Nat} {ld : Int} {dn : Bool} {x y : Bx} {k n i s : Nat} (hi : i < n) (hs : ¬ s = lim) (h : st (setB x k (vlu ld dn x k i)) = some y) : tryL st rec lim ld dn x k (n - i) i s = if (rec y (s + 1)).1 = 0 then tryL st rec lim ld dn x k (n - (i + 1)) (i + 1) (rec y (s + 1)).2.1 else rec y (s + 1) := by
  rw [show n - i = (n - (i + 1)) + 1 by omega, tryL, if_neg hs, h]
theorem cutB_v {x : Bx} {k : Nat} {v : Int} (h : x.1 k ≤ v ∧ v ≤ x.2 k) : cutB x k v v = setB x k v := by
  unfold cutB setB
  rw [show max (x.1 k) v = v by omega, show min (x.2 k) v = v by omega]
theorem cpy_leaf {f g : Nat → Int32} {n : Nat} {x : Bx} (h : Eqb n (tI f) (tI g) x.1 x.2) {q : Nat → Int32} : va_cpy f q 0 0 n = fun k => if k < n then Int32.ofInt (x.1 k) else q k := by
  funext k
  unfold va_cpy
  by_cases e : k < n
  · rw [if_pos (by omega), if_pos e]
    exact i32_of (by have := (h k e).1; unfold tI at this; simpa using this)
  · rw [if_neg (by omega), if_neg e]
theorem d_Sht_search_0 : decode b_Sht_search 0 = .ok (.aload_n 0, 1) := by decide +kernel
theorem d_Sht_search_1 : decode b_Sht_search 1 = .ok (.getfield 48, 3) := by decide +kernel
theorem d_Sht_search_4 : decode b_Sht_search 4 = .ok (.iload_n 1, 1) := by decide +kernel
theorem d_Sht_search_5 : decode b_Sht_search 5 = .ok (.aaload, 1) := by decide +kernel
theorem d_Sht_search_6 : decode b_Sht_search 6 = .ok (.astore_n 2, 1) := by decide +kernel
theorem d_Sht_search_7 : decode b_Sht_search 7 = .ok (.aload_n 0, 1) := by decide +kernel
theorem d_Sht_search_8 : decode b_Sht_search 8 = .ok (.aload_n 2, 1) := by decide +kernel
theorem d_Sht_search_9 : decode b_Sht_search 9 = .ok (.invokevirtual 186, 3) := by decide +kernel
theorem d_Sht_search_12 : decode b_Sht_search 12 = .ok (.istore_n 3, 1) := by decide +kernel
theorem d_Sht_search_13 : decode b_Sht_search 13 = .ok (.iload_n 3, 1) := by decide +kernel
theorem d_Sht_search_14 : decode b_Sht_search 14 = .ok (.sipush (-1000), 3) := by decide +kernel
theorem d_Sht_search_17 : decode b_Sht_search 17 = .ok (.if_icmp .ne 30, 3) := by decide +kernel
theorem d_Sht_search_20 : decode b_Sht_search 20 = .ok (.aload_n 2, 1) := by decide +kernel
theorem d_Sht_search_21 : decode b_Sht_search 21 = .ok (.getfield 80, 3) := by decide +kernel
theorem d_Sht_search_24 : decode b_Sht_search 24 = .ok (.iconst 0, 1) := by decide +kernel
theorem d_Sht_search_25 : decode b_Sht_search 25 = .ok (.aload_n 0, 1) := by decide +kernel
theorem d_Sht_search_26 : decode b_Sht_search 26 = .ok (.getfield 52, 3) := by decide +kernel
theorem d_Sht_search_29 : decode b_Sht_search 29 = .ok (.iconst 0, 1) := by decide +kernel
theorem d_Sht_search_30 : decode b_Sht_search 30 = .ok (.aload_n 0, 1) := by decide +kernel
theorem d_Sht_search_31 : decode b_Sht_search 31 = .ok (.getfield 55, 3) := by decide +kernel
theorem d_Sht_search_34 : decode b_Sht_search 34 = .ok (.invokestatic 190, 3) := by decide +kernel
theorem d_Sht_search_37 : decode b_Sht_search 37 = .ok (.aload_n 0, 1) := by decide +kernel
theorem d_Sht_search_38 : decode b_Sht_search 38 = .ok (.aload_n 0, 1) := by decide +kernel
theorem d_Sht_search_39 : decode b_Sht_search 39 = .ok (.getfield 55, 3) := by decide +kernel
theorem d_Sht_search_42 : decode b_Sht_search 42 = .ok (.putfield 196, 3) := by decide +kernel
theorem d_Sht_search_45 : decode b_Sht_search 45 = .ok (.iconst 1, 1) := by decide +kernel
theorem d_Sht_search_46 : decode b_Sht_search 46 = .ok (.ireturn, 1) := by decide +kernel
theorem d_Sht_search_47 : decode b_Sht_search 47 = .ok (.aload_n 0, 1) := by decide +kernel
theorem d_Sht_search_48 : decode b_Sht_search 48 = .ok (.getfield 199, 3) := by decide +kernel
theorem d_Sht_search_51 : decode b_Sht_search 51 = .ok (.ifCond .eq 15, 3) := by decide +kernel
theorem d_Sht_search_54 : decode b_Sht_search 54 = .ok (.iload_n 3, 1) := by decide +kernel
theorem d_Sht_search_55 : decode b_Sht_search 55 = .ok (.aload_n 0, 1) := by decide +kernel
theorem d_Sht_search_56 : decode b_Sht_search 56 = .ok (.getfield 180, 3) := by decide +kernel
theorem d_Sht_search_59 : decode b_Sht_search 59 = .ok (.if_icmp .ne 7, 3) := by decide +kernel
theorem d_Sht_search_62 : decode b_Sht_search 62 = .ok (.iconst 1, 1) := by decide +kernel
theorem d_Sht_search_63 : decode b_Sht_search 63 = .ok (.goto 4, 3) := by decide +kernel
theorem d_Sht_search_66 : decode b_Sht_search 66 = .ok (.iconst 0, 1) := by decide +kernel
theorem d_Sht_search_67 : decode b_Sht_search 67 = .ok (.istore 4, 2) := by decide +kernel
theorem d_Sht_search_69 : decode b_Sht_search 69 = .ok (.iconst 0, 1) := by decide +kernel
theorem d_Sht_search_70 : decode b_Sht_search 70 = .ok (.istore 5, 2) := by decide +kernel
theorem d_Sht_search_72 : decode b_Sht_search 72 = .ok (.iconst 0, 1) := by decide +kernel
theorem d_Sht_search_73 : decode b_Sht_search 73 = .ok (.istore 6, 2) := by decide +kernel
theorem d_Sht_search_75 : decode b_Sht_search 75 = .ok (.iload 6, 2) := by decide +kernel
theorem d_Sht_search_77 : decode b_Sht_search 77 = .ok (.aload_n 2, 1) := by decide +kernel
theorem d_Sht_search_78 : decode b_Sht_search 78 = .ok (.getfield 83, 3) := by decide +kernel
theorem d_Sht_search_81 : decode b_Sht_search 81 = .ok (.iload_n 3, 1) := by decide +kernel
theorem d_Sht_search_82 : decode b_Sht_search 82 = .ok (.iaload, 1) := by decide +kernel
theorem d_Sht_search_83 : decode b_Sht_search 83 = .ok (.aload_n 2, 1) := by decide +kernel
theorem d_Sht_search_84 : decode b_Sht_search 84 = .ok (.getfield 80, 3) := by decide +kernel
theorem d_Sht_search_87 : decode b_Sht_search 87 = .ok (.iload_n 3, 1) := by decide +kernel
theorem d_Sht_search_88 : decode b_Sht_search 88 = .ok (.iaload, 1) := by decide +kernel
theorem d_Sht_search_89 : decode b_Sht_search 89 = .ok (.isub, 1) := by decide +kernel
theorem d_Sht_search_90 : decode b_Sht_search 90 = .ok (.if_icmp .gt 114, 3) := by decide +kernel
theorem d_Sht_search_93 : decode b_Sht_search 93 = .ok (.iload 5, 2) := by decide +kernel
theorem d_Sht_search_95 : decode b_Sht_search 95 = .ok (.ifCond .ne 109, 3) := by decide +kernel
theorem d_Sht_search_98 : decode b_Sht_search 98 = .ok (.aload_n 0, 1) := by decide +kernel
theorem d_Sht_search_99 : decode b_Sht_search 99 = .ok (.getfield 202, 3) := by decide +kernel
theorem d_Sht_search_102 : decode b_Sht_search 102 = .ok (.aload_n 0, 1) := by decide +kernel
theorem d_Sht_search_103 : decode b_Sht_search 103 = .ok (.getfield 205, 3) := by decide +kernel
theorem d_Sht_search_106 : decode b_Sht_search 106 = .ok (.if_icmp .ne 7, 3) := by decide +kernel
theorem d_Sht_search_109 : decode b_Sht_search 109 = .ok (.sipush (-1000), 3) := by decide +kernel
theorem d_Sht_search_112 : decode b_Sht_search 112 = .ok (.ireturn, 1) := by decide +kernel
theorem d_Sht_search_113 : decode b_Sht_search 113 = .ok (.aload_n 0, 1) := by decide +kernel
theorem d_Sht_search_114 : decode b_Sht_search 114 = .ok (.dup, 1) := by decide +kernel
theorem d_Sht_search_115 : decode b_Sht_search 115 = .ok (.getfield 202, 3) := by decide +kernel
theorem d_Sht_search_118 : decode b_Sht_search 118 = .ok (.iconst 1, 1) := by decide +kernel
theorem d_Sht_search_119 : decode b_Sht_search 119 = .ok (.iadd, 1) := by decide +kernel
theorem d_Sht_search_120 : decode b_Sht_search 120 = .ok (.putfield 202, 3) := by decide +kernel
theorem d_Sht_search_123 : decode b_Sht_search 123 = .ok (.iload 4, 2) := by decide +kernel
theorem d_Sht_search_125 : decode b_Sht_search 125 = .ok (.ifCond .eq 15, 3) := by decide +kernel
theorem d_Sht_search_128 : decode b_Sht_search 128 = .ok (.aload_n 2, 1) := by decide +kernel
theorem d_Sht_search_129 : decode b_Sht_search 129 = .ok (.getfield 83, 3) := by decide +kernel
theorem d_Sht_search_132 : decode b_Sht_search 132 = .ok (.iload_n 3, 1) := by decide +kernel
theorem d_Sht_search_133 : decode b_Sht_search 133 = .ok (.iaload, 1) := by decide +kernel
theorem d_Sht_search_134 : decode b_Sht_search 134 = .ok (.iload 6, 2) := by decide +kernel
theorem d_Sht_search_136 : decode b_Sht_search 136 = .ok (.isub, 1) := by decide +kernel
theorem d_Sht_search_137 : decode b_Sht_search 137 = .ok (.goto 12, 3) := by decide +kernel
theorem d_Sht_search_140 : decode b_Sht_search 140 = .ok (.aload_n 2, 1) := by decide +kernel
theorem d_Sht_search_141 : decode b_Sht_search 141 = .ok (.getfield 80, 3) := by decide +kernel
theorem d_Sht_search_144 : decode b_Sht_search 144 = .ok (.iload_n 3, 1) := by decide +kernel
theorem d_Sht_search_145 : decode b_Sht_search 145 = .ok (.iaload, 1) := by decide +kernel
theorem d_Sht_search_146 : decode b_Sht_search 146 = .ok (.iload 6, 2) := by decide +kernel
theorem d_Sht_search_148 : decode b_Sht_search 148 = .ok (.iadd, 1) := by decide +kernel
theorem d_Sht_search_149 : decode b_Sht_search 149 = .ok (.istore 7, 2) := by decide +kernel
theorem d_Sht_search_151 : decode b_Sht_search 151 = .ok (.aload_n 0, 1) := by decide +kernel
theorem d_Sht_search_152 : decode b_Sht_search 152 = .ok (.getfield 48, 3) := by decide +kernel
theorem d_Sht_search_155 : decode b_Sht_search 155 = .ok (.iload_n 1, 1) := by decide +kernel
theorem d_Sht_search_156 : decode b_Sht_search 156 = .ok (.iconst 1, 1) := by decide +kernel
theorem d_Sht_search_157 : decode b_Sht_search 157 = .ok (.iadd, 1) := by decide +kernel
theorem d_Sht_search_158 : decode b_Sht_search 158 = .ok (.aaload, 1) := by decide +kernel
theorem d_Sht_search_159 : decode b_Sht_search 159 = .ok (.astore 8, 2) := by decide +kernel
theorem d_Sht_search_161 : decode b_Sht_search 161 = .ok (.aload 8, 2) := by decide +kernel
theorem d_Sht_search_163 : decode b_Sht_search 163 = .ok (.aload_n 2, 1) := by decide +kernel
theorem d_Sht_search_164 : decode b_Sht_search 164 = .ok (.invokevirtual 160, 3) := by decide +kernel
theorem d_Sht_search_167 : decode b_Sht_search 167 = .ok (.aload 8, 2) := by decide +kernel
theorem d_Sht_search_169 : decode b_Sht_search 169 = .ok (.iload_n 3, 1) := by decide +kernel
theorem d_Sht_search_170 : decode b_Sht_search 170 = .ok (.iload 7, 2) := by decide +kernel
theorem d_Sht_search_172 : decode b_Sht_search 172 = .ok (.iload 7, 2) := by decide +kernel
theorem d_Sht_search_174 : decode b_Sht_search 174 = .ok (.invokevirtual 164, 3) := by decide +kernel
theorem d_Sht_search_177 : decode b_Sht_search 177 = .ok (.ifCond .eq 21, 3) := by decide +kernel
theorem d_Sht_search_180 : decode b_Sht_search 180 = .ok (.aload_n 0, 1) := by decide +kernel
theorem d_Sht_search_181 : decode b_Sht_search 181 = .ok (.aload 8, 2) := by decide +kernel
theorem d_Sht_search_183 : decode b_Sht_search 183 = .ok (.invokevirtual 167, 3) := by decide +kernel
theorem d_Sht_search_186 : decode b_Sht_search 186 = .ok (.ifCond .eq 12, 3) := by decide +kernel
theorem d_Sht_search_189 : decode b_Sht_search 189 = .ok (.aload_n 0, 1) := by decide +kernel
theorem d_Sht_search_190 : decode b_Sht_search 190 = .ok (.iload_n 1, 1) := by decide +kernel
theorem d_Sht_search_191 : decode b_Sht_search 191 = .ok (.iconst 1, 1) := by decide +kernel
theorem d_Sht_search_192 : decode b_Sht_search 192 = .ok (.iadd, 1) := by decide +kernel
theorem d_Sht_search_193 : decode b_Sht_search 193 = .ok (.invokevirtual 208, 3) := by decide +kernel
theorem d_Sht_search_196 : decode b_Sht_search 196 = .ok (.istore 5, 2) := by decide +kernel
theorem d_Sht_search_198 : decode b_Sht_search 198 = .ok (.iinc 6 1, 3) := by decide +kernel
theorem d_Sht_search_201 : decode b_Sht_search 201 = .ok (.goto (-126), 3) := by decide +kernel
theorem d_Sht_search_204 : decode b_Sht_search 204 = .ok (.iload 5, 2) := by decide +kernel
theorem d_Sht_search_206 : decode b_Sht_search 206 = .ok (.ireturn, 1) := by decide +kernel
set_option maxHeartbeats 4000000 in
set_option maxRecDepth 20000 in
theorem k_Sht_search (l : Launch) (D : va_G) (cA : Nat → ClassId) (adr : Nat → Nat) (N : List Nat) (hi : wI N adr) (F : Nat → Nat → Int32) (I : Nat → Int32) (nn mm : Nat) (dn : Bool) (hNm : ∀ k, k < 56 + mm → k ∈ N) (hW : WR I F nn mm) (lim : Nat) (hl3 : lim ≤ 300) (ld : Int) : ∀ (fu : Nat) (cn : Nat → va_E) (x : Nat → Int32) (d : Nat) (xd : Int32) (xq : Bx) (s0 : Nat), CP cA adr cn (va_up I 31 (Int32.ofInt (s0 : Int))) F mm x dn → (x 13).toInt = (lim : Int) → (((x 15).toInt = -1000 ∧ ld = -1) ∨ ((x 15).toInt = ld ∧ 0 ≤ ld ∧ ld < nn)) → ∀ (f g : Nat → Int32) (ch : Bool), BP cA adr cn (14 + 3 * d) f g ch → Eqb nn (tI f) (tI g) xq.1 xq.2 → (∀ j, j < nn → -100 ≤ xq.1 j ∧ xq.1 j ≤ xq.2 j ∧ xq.2 j ≤ 100) → d ≤ fxc nn xq → d + fu = 11 → s0 ≤ lim → xd.toInt = (d : Int) → Ct l y_Sht_search b_Sht_search 9 (some .int) (14 + fu) D cA [.ref (adr 0), .int xd] (fun H => va_P D classes (wl N adr cn) H) (fun r H => ∃ (z : Int32) (cn2 : Nat → va_E) (x2 : Nat → Int32), r = some (.int z) ∧ z.toInt = (srch (stl nn (FA F mm)) nn lim ld dn fu xq s0).1 ∧ CP cA adr cn2 (J_fnd I (srch (stl nn (FA F mm)) nn lim ld dn fu xq s0)) (G_fnd F nn (srch (stl nn (FA F mm)) nn lim ld dn fu xq s0)) mm x2 dn ∧ (srch (stl nn (FA F mm)) nn lim ld dn fu xq s0).2.1 ≤ lim ∧ x2 13 = x 13 ∧ x2 15 = x 15 ∧ (∀ k, 14 ≤ k → k < 14 + 3 * (d + 1) → cn2 k = cn k) ∧ va_P D classes (wl N adr cn2) H) (wA N adr) := by
  intro fu
  have hn10 := hW.1
  have hm12 := hW.2.1
  induction fu with
  | zero => intro cn x d xd xq s0 _ _ _ f g ch _ _ _ hdf hdu; have := fxc_le nn xq; omega
  | succ fu ih =>
    intro cn x d xd xq s0 hCP hlim hld f g ch hB hxx hxr hdf hdu hs0 hxd
    refine Ct.mk (by decide) (Nat.le_of_ble_eq_true rfl) ?_
    intro p e s m args below meth c Q H locs ls hx hb hr hml hlk hown hin hK hQ hS hP hl
    have hl : lv_has ls 9 [(0, .ref (adr 0)), (1, .int xd)] := hl
    have hown : s.vm.findClass "RangeSheet" = some m.cls := hown
    have hCP0 := hCP
    obtain ⟨hSR, ⟨hx1, hx3, hx8, hx9, hx11, hx14, hx18⟩, ⟨hc2, hc3, hc4, hc5, hc6, hc7⟩, -, -, -⟩ := hCP
    have hv1 : (x 1).toInt = (nn : Int) := by rw [hx1]; exact hW.2.2.1
    have hfx := fxc_le nn xq
    have hne : Ne nn (tI f) (tI g) := fun j hj => by have a1 := hxr j hj; have a2 := hxx j hj; omega
    refine lv_aload_n hx hb d_Sht_search_0 rfl (lv_at hl 0 rfl) ?_
    refine w_gf hx hb hK i_Sht hown hP (hNm 0 (by omega)) hSR.1 rfl 12 (by decide) t_97 rfl rfl d_Sht_search_1 ?_
    refine lv_iload_n hx hb d_Sht_search_4 rfl (lv_at hl 1 rfl) ?_
    refine w_ald hx hb hK hP (hNm 6 (by omega)) hc6 rfl (d) hxd (by omega) (show d < 11 by omega) (if_pos (by omega)) d_Sht_search_5 ?_
    refine lv_astore_n (lv' := [(2, .ref (adr (14 + 3 * d))), (0, .ref (adr 0)), (1, .int xd)]) hx hb d_Sht_search_6 rfl hl (by decide) rfl (fun ls hl => ?_)
    refine lv_aload_n hx hb d_Sht_search_7 rfl (lv_at hl 1 rfl) ?_
    refine lv_aload_n hx hb d_Sht_search_8 rfl (lv_at hl 0 rfl) ?_
    refine x_V (As := [.ref (adr (14 + 3 * d))]) (rest := []) hx hb hml hown hK (k_Sht_open l D cA adr N hi cn F nn mm x dn hSR hNm hn10 hv1 (14 + 3 * d) f g ch hB (by omega) hne xq hxx ld hld) t_707 t_1 t_704 t_706 ts_14 yk_Sht_open ⟨(by show _ ≤ 14 + (fu + 1); omega), (by show _ ≤ 60 * (14 + (fu + 1)); omega)⟩ (w_rec hK hP (hNm 0 (by omega)) hSR.1 rfl) hP rfl hl.1 rfl (Nat.le_of_ble_eq_true rfl) d_Sht_search_9 ⟨Nat.le_of_ble_eq_true rfl, Nat.le_of_ble_eq_true rfl⟩ hS (fun q h => h) (fun r H locs hq _ hS => ?_)
    obtain ⟨z_1, rfl, ho_1, hP⟩ := hq
    refine W.eq (g2 := F0 m 12 ls [.int z_1]) rfl ?_
    refine lv_istore_n (lv' := [(3, .int z_1), (2, .ref (adr (14 + 3 * d))), (0, .ref (adr 0)), (1, .int xd)]) hx hb d_Sht_search_12 rfl hl (by decide) rfl (fun ls hl => ?_)
    refine lv_iload_n hx hb d_Sht_search_13 rfl (lv_at hl 0 rfl) ?_
    refine lv_sipush (v := (-1000)) hx hb d_Sht_search_14 (by decide) ?_
    refine b_icmp_ne (tgt := 47) hx hb d_Sht_search_17 (by decide) rfl kc_m1000 (fun c_2 => ?_) (fun c_2 => ?_)
    · obtain ⟨kq, hoq, hkz⟩ : ∃ k, opn nn ld xq = some k ∧ z_1.toInt = (k : Int) := by rcases ho_1 with h | h; (exact absurd h.2 c_2); exact h
      have hkq := opn_of (show ld < (nn : Int) by omega) hoq
      have hfl := fxc_lt hkq.1 (show ¬ xq.1 kq = xq.2 kq by omega)
      have hxk := hxr kq hkq.1; have hek := hxx kq hkq.1; unfold tI at hek
      have hRT : (srch (stl nn (FA F mm)) nn lim ld dn (fu + 1) xq s0) = tryL (stl nn (FA F mm)) (srch (stl nn (FA F mm)) nn lim ld dn fu) lim ld dn xq kq (wid xq kq) 0 s0 := by rw [srch, hoq]
      refine lv_aload_n hx hb d_Sht_search_47 rfl (lv_at hl 2 rfl) ?_
      refine w_gf hx hb hK i_Sht hown hP (hNm 0 (by omega)) hSR.1 rfl 16 (by decide) t_101 rfl rfl d_Sht_search_48 ?_
      have K_203 : ∀ (b_203_0 : Bool), (b_203_0 = true ↔ (dn = true ∧ (kq : Int) = (x 15).toInt)) → W p l e (rl (14 + (fu + 1))) s m args below meth c H locs 0 0 Q (F0 m 67 ls [.int (bi b_203_0)]) := by
        intro b_203_0 hb_203_0
        have hdb : b_203_0 = true ↔ (dn = true ∧ (kq : Int) = ld) := by clear ho_1; rw [hb_203_0]; constructor <;> (rintro ⟨a1, a2⟩; refine ⟨by simpa using a1, ?_⟩; omega)
        refine lv_istore (lv' := [(4, .int (bi b_203_0)), (3, .int z_1), (2, .ref (adr (14 + 3 * d))), (0, .ref (adr 0)), (1, .int xd)]) hx hb d_Sht_search_67 hl (by decide) rfl (fun ls hl => ?_)
        refine lv_iconst (v := 0) hx hb d_Sht_search_69 (by decide) ?_
        refine lv_istore (lv' := [(5, .int (0 : Int32)), (4, .int (bi b_203_0)), (3, .int z_1), (2, .ref (adr (14 + 3 * d))), (0, .ref (adr 0)), (1, .int xd)]) hx hb d_Sht_search_70 hl (by decide) rfl (fun ls hl => ?_)
        refine lv_iconst (v := 0) hx hb d_Sht_search_72 (by decide) ?_
        refine lv_istore (lv' := [(6, .int (0 : Int32)), (5, .int (0 : Int32)), (4, .int (bi b_203_0)), (3, .int z_1), (2, .ref (adr (14 + 3 * d))), (0, .ref (adr 0)), (1, .int xd)]) hx hb d_Sht_search_73 hl (by decide) rfl (fun ls hl => ?_)
        have L_204 : ∀ (n : Nat) (ix : Nat) (x6 : Int32) (x5 : Int32) (cn1 : Nat → va_E) (x1 : Nat → Int32) (H : Heap) (locs : List Loc) (ls : Array Slot), (wid xq kq + 1 - ix) < n → (ix ≤ wid xq kq) → (x6.toInt = (ix : Int)) → (x1 13 = x 13) → (x1 15 = x 15) → (∀ k, 14 ≤ k → k < 14 + 3 * (d + 1) → cn1 k = cn k) → (SrD cA adr cn1 I F nn mm x1 dn lim (tryL (stl nn (FA F mm)) (srch (stl nn (FA F mm)) nn lim ld dn fu) lim ld dn xq kq (wid xq kq) 0 s0) (fun s1 => tryL (stl nn (FA F mm)) (srch (stl nn (FA F mm)) nn lim ld dn fu) lim ld dn xq kq (wid xq kq - ix) ix s1) x5.toInt) → va_P D classes (wl N adr cn1) H → va_S (wA N adr) s.heap H locs → lv_has ls 9 [(4, .int (bi b_203_0)), (3, .int z_1), (2, .ref (adr (14 + 3 * d))), (0, .ref (adr 0)), (1, .int xd), (5, .int x5), (6, .int x6)] → W p l e (rl (14 + (fu + 1))) s m args below meth c H locs 0 0 Q (F0 m 75 ls []) := by
          intro n
          induction n with
          | zero => intro ix x6 x5 cn1 x1 H locs ls hmu; exact absurd hmu (Nat.not_lt_zero _)
          | succ n ih_204 =>
            intro ix x6 x5 cn1 x1 H locs ls hmu hix h6 h13 h15 hkp hD hP hS hl
            have hwd : (wid xq kq : Int) = xq.2 kq - xq.1 kq + 1 := by unfold wid; omega
            refine lv_iload hx hb d_Sht_search_75 (lv_at hl 6 rfl) ?_
            refine lv_aload_n hx hb d_Sht_search_77 rfl (lv_at hl 2 rfl) ?_
            refine w_gfN hx hb hK i_Box hown hP (hNm _ (by omega)) ((hkp _ (by omega) (by omega)).trans hB.1) rfl 1 (by decide) t_48 rfl rfl d_Sht_search_78 ?_
            refine lv_iload_n hx hb d_Sht_search_81 rfl (lv_at hl 1 rfl) ?_
            refine w_ld hx hb hK hP (hNm _ (by omega)) ((hkp _ (by omega) (by omega)).trans hB.2.2) (kq) hkz (by omega) (show kq < 10 by omega) d_Sht_search_82 (fun z_205 ez_205 => ?_)
            subst ez_205
            refine lv_aload_n hx hb d_Sht_search_83 rfl (lv_at hl 2 rfl) ?_
            refine w_gfN hx hb hK i_Box hown hP (hNm _ (by omega)) ((hkp _ (by omega) (by omega)).trans hB.1) rfl 0 (by decide) t_42 rfl rfl d_Sht_search_84 ?_
            refine lv_iload_n hx hb d_Sht_search_87 rfl (lv_at hl 1 rfl) ?_
            refine w_ld hx hb hK hP (hNm _ (by omega)) ((hkp _ (by omega) (by omega)).trans hB.2.1) (kq) hkz (by omega) (show kq < 10 by omega) d_Sht_search_88 (fun z_206 ez_206 => ?_)
            subst ez_206
            refine x_sub hx hb d_Sht_search_89 rfl rfl (by omega) (fun z_207 tz_207 => ?_)
            refine b_icmp_gt (tgt := 204) hx hb d_Sht_search_90 (by decide) h6 tz_207 (fun c_208 => ?_) (fun c_208 => ?_)
            · refine lv_iload hx hb d_Sht_search_204 (lv_at hl 5 rfl) ?_
              refine e_i hx hb hr hlk hQ hS d_Sht_search_206 ?_
              have hfi := hD.fin (Or.inr (fun s => by show tryL _ _ _ _ _ _ _ (wid xq kq - ix) _ _ = _; rw [show wid xq kq - ix = 0 by unfold wid; omega, tryL]))
              rw [hRT]
              exact ⟨_, cn1, x1, rfl, hfi.1, hfi.2.1, hfi.2.2, h13, h15, hkp, hP⟩
            · refine lv_iload hx hb d_Sht_search_93 (lv_at hl 5 rfl) ?_
              refine b_if_ne (tgt := 204) hx hb d_Sht_search_95 (by decide) rfl (fun c_209 => ?_) (fun c_209 => ?_)
              · refine lv_iload hx hb d_Sht_search_204 (lv_at hl 5 rfl) ?_
                refine e_i hx hb hr hlk hQ hS d_Sht_search_206 ?_
                have hfi := hD.fin (Or.inl c_209)
                rw [hRT]
                exact ⟨_, cn1, x1, rfl, hfi.1, hfi.2.1, hfi.2.2, h13, h15, hkp, hP⟩
              · obtain ⟨s1, hs1, hT1, hC1⟩ := hD.zero c_209
                have hgz := c_209
                have hC1s := hC1
                obtain ⟨hSR1, ⟨y1, y3, y8, y9, y11, y14, y18⟩, ⟨e2, e3, e4, e5, e6, e7⟩, -, -, hBy⟩ := hC1s
                obtain ⟨fn, gn, cn9, hBn⟩ := hBy (d + 1) (by omega)
                have v14 : (x1 14).toInt = (s1 : Int) := by rw [y14]; exact ofN32 (by omega)
                have v13 : (x1 13).toInt = (lim : Int) := by rw [h13]; exact hlim
                refine lv_aload_n hx hb d_Sht_search_98 rfl (lv_at hl 3 rfl) ?_
                refine w_gf hx hb hK i_Sht hown hP (hNm 0 (by omega)) hSR1.1 rfl 14 (by decide) t_99 rfl rfl d_Sht_search_99 ?_
                refine lv_aload_n hx hb d_Sht_search_102 rfl (lv_at hl 3 rfl) ?_
                refine w_gf hx hb hK i_Sht hown hP (hNm 0 (by omega)) hSR1.1 rfl 13 (by decide) t_98 rfl rfl d_Sht_search_103 ?_
                refine b_icmp_ne (tgt := 113) hx hb d_Sht_search_106 (by decide) v14 v13 (fun c_210 => ?_) (fun c_210 => ?_)
                · have hsl : ¬ s1 = lim := fun e => c_210 (by omega)
                  refine lv_aload_n hx hb d_Sht_search_113 rfl (lv_at hl 3 rfl) ?_
                  refine lv_dup hx hb d_Sht_search_114 rfl ?_
                  refine w_gf hx hb hK i_Sht hown hP (hNm 0 (by omega)) hSR1.1 rfl 14 (by decide) t_99 rfl rfl d_Sht_search_115 ?_
                  refine lv_iconst (v := 1) hx hb d_Sht_search_118 (by decide) ?_
                  refine x_add hx hb d_Sht_search_119 v14 kc_1 (by omega) (fun z_211 tz_211 => ?_)
                  refine w_pf hx hb hK i_Sht t_Sht t_Sht_ok n_Sht hown hi hP hS wA_mem (hNm 0 (by omega)) hSR1.1 rfl 14 (by decide) t_99 rfl rfl rfl rfl rfl d_Sht_search_120 (fun H locs hP hS => ?_)
                  obtain ⟨cn_212, ecn_212⟩ : ∃ q : Nat → va_E, q = va_up cn1 0 (.inr (1, [.ref (adr 8), .int (x1 1), .ref (adr 1), .int (x1 3), .ref (adr 2), .ref (adr 3), .ref (adr 4), .ref (adr 5), .int (x1 8), .int (x1 9), .ref (adr 11), .int (x1 11), .ref (adr 6), .int (x1 13), .int z_211, .int (x1 15), .int (bi dn), .ref (adr 7), .int (x1 18)])) := ⟨_, rfl⟩
                  have hP : va_P D classes (wl N adr cn_212) H := by rw [ecn_212]; exact hP
                  have ho_212_213 : cn_212 (14 + 3 * d) = .inr (2, [.ref (adr ((14 + 3 * d) + 1)), .ref (adr ((14 + 3 * d) + 2)), .int (bi ch)]) := by rw [ecn_212, va_up_ne _ _ (by omega)]; exact ((hkp _ (by omega) (by omega)).trans hB.1)
                  have ho_212_214 : cn_212 ((14 + 3 * d) + 1) = .inl (cA 0, 10, .inl f) := by rw [ecn_212, va_up_ne _ _ (by omega)]; exact ((hkp _ (by omega) (by omega)).trans hB.2.1)
                  have ho_212_215 : cn_212 ((14 + 3 * d) + 2) = .inl (cA 0, 10, .inl g) := by rw [ecn_212, va_up_ne _ _ (by omega)]; exact ((hkp _ (by omega) (by omega)).trans hB.2.2)
                  have ho_212_216 : cn_212 0 = .inr (1, [.ref (adr 8), .int (x1 1), .ref (adr 1), .int (x1 3), .ref (adr 2), .ref (adr 3), .ref (adr 4), .ref (adr 5), .int (x1 8), .int (x1 9), .ref (adr 11), .int (x1 11), .ref (adr 6), .int (x1 13), .int z_211, .int (x1 15), .int (bi dn), .ref (adr 7), .int (x1 18)]) := by rw [ecn_212]; exact va_up_self _ _ _
                  have ho_212_217 : cn_212 6 = .inl (cA 5, 11, .inr (.inr (.inr (.inr (fun k => if k < 11 then some (adr (14 + 3 * k)) else none))))) := by rw [ecn_212, va_up_ne _ _ (by omega)]; exact e6
                  have ho_212_218 : cn_212 (14 + 3 * (d + 1)) = .inr (2, [.ref (adr ((14 + 3 * (d + 1)) + 1)), .ref (adr ((14 + 3 * (d + 1)) + 2)), .int (bi cn9)]) := by rw [ecn_212, va_up_ne _ _ (by omega)]; exact hBn.1
                  have ho_212_219 : cn_212 ((14 + 3 * (d + 1)) + 1) = .inl (cA 0, 10, .inl fn) := by rw [ecn_212, va_up_ne _ _ (by omega)]; exact hBn.2.1
                  have ho_212_220 : cn_212 ((14 + 3 * (d + 1)) + 2) = .inl (cA 0, 10, .inl gn) := by rw [ecn_212, va_up_ne _ _ (by omega)]; exact hBn.2.2
                  obtain ⟨x9, hx9e⟩ : ∃ q : Nat → Int32, q = va_up x1 14 z_211 := ⟨_, rfl⟩
                  have hks : ∀ k, k ≠ 0 → cn_212 k = cn1 k := fun k a => (congrFun ecn_212 k).trans (va_up_ne _ _ a)
                  have hz9 : z_211 = Int32.ofInt ((s1 + 1 : Nat) : Int) := i32_of (by omega)
                  have hC2 : CP cA adr cn_212 (va_up I 31 (Int32.ofInt ((s1 + 1 : Nat) : Int))) F mm x9 dn := by
                    rw [hx9e]; exact CP.set (y := va_up x1 14 z_211) hC1 ho_212_216 ⟨y1, y3, y8, y9, y11, hz9, y18⟩ ((hks 3 (by omega)).trans e3) ((hks 4 (by omega)).trans e4) ((hks 5 (by omega)).trans e5) ((hks 7 (by omega)).trans e7) rfl rfl (fun k a _ _ _ _ => hks k a) (fun _ _ _ _ _ => rfl)
                  have h13 : x9 13 = x 13 := by rw [hx9e]; exact h13
                  have h15 : x9 15 = x 15 := by rw [hx9e]; exact h15
                  refine lv_iload hx hb d_Sht_search_123 (lv_at hl 0 rfl) ?_
                  have K_421 : ∀ (z_421_0 : Int32), z_421_0.toInt = (if b_203_0 = false then ((f kq).toInt + (ix : Int)) else ((g kq).toInt - (ix : Int))) → W p l e (rl (14 + (fu + 1))) s m args below meth c H locs 0 0 Q (F0 m 149 ls [.int z_421_0]) := by
                    intro z_421_0 hz_421_0
                    have hvl : z_421_0.toInt = vlu ld dn xq kq ix := by rw [hz_421_0]; unfold vlu; by_cases q : b_203_0 = true; (rw [if_pos (hdb.mp q), if_neg (by rw [q]; decide)]; omega); (rw [if_neg (fun h => q (hdb.mpr h)), if_pos (by simpa using q)]; omega)
                    have hvr : xq.1 kq ≤ vlu ld dn xq kq ix ∧ vlu ld dn xq kq ix ≤ xq.2 kq := by unfold vlu; split <;> omega
                    refine lv_istore (lv' := [(7, .int z_421_0), (4, .int (bi b_203_0)), (3, .int z_1), (2, .ref (adr (14 + 3 * d))), (0, .ref (adr 0)), (1, .int xd), (5, .int x5), (6, .int x6)]) hx hb d_Sht_search_149 hl (by decide) rfl (fun ls hl => ?_)
                    refine lv_aload_n hx hb d_Sht_search_151 rfl (lv_at hl 4 rfl) ?_
                    refine w_gf hx hb hK i_Sht hown hP (hNm 0 (by omega)) ho_212_216 rfl 12 (by decide) t_97 rfl rfl d_Sht_search_152 ?_
                    refine lv_iload_n hx hb d_Sht_search_155 rfl (lv_at hl 5 rfl) ?_
                    refine lv_iconst (v := 1) hx hb d_Sht_search_156 (by decide) ?_
                    refine x_add hx hb d_Sht_search_157 hxd kc_1 (by omega) (fun z_422 tz_422 => ?_)
                    refine w_ald hx hb hK hP (hNm 6 (by omega)) ho_212_217 rfl ((d + 1)) tz_422 (by omega) (show (d + 1) < 11 by omega) (if_pos (by omega)) d_Sht_search_158 ?_
                    refine lv_astore (lv' := [(8, .ref (adr (14 + 3 * (d + 1)))), (7, .int z_421_0), (4, .int (bi b_203_0)), (3, .int z_1), (2, .ref (adr (14 + 3 * d))), (0, .ref (adr 0)), (1, .int xd), (5, .int x5), (6, .int x6)]) hx hb d_Sht_search_159 hl (by decide) rfl (fun ls hl => ?_)
                    refine lv_aload hx hb d_Sht_search_161 (lv_at hl 0 rfl) ?_
                    refine lv_aload_n hx hb d_Sht_search_163 rfl (lv_at hl 4 rfl) ?_
                    refine x_V (As := [.ref (adr (14 + 3 * d))]) (rest := []) hx hb hml hown hK (k_Box_copy l D cA adr N hi cn_212 (14 + 3 * (d + 1)) fn gn cn9 ⟨ho_212_218, ho_212_219, ho_212_220⟩ ⟨hNm _ (by omega), hNm _ (by omega), hNm _ (by omega)⟩ (14 + 3 * d) f g ch ⟨ho_212_213, ho_212_214, ho_212_215⟩ ⟨hNm _ (by omega), hNm _ (by omega), hNm _ (by omega)⟩ (by omega)) t_169 t_2 t_166 t_167 t_168 yk_Box_copy ⟨(by show _ ≤ 14 + (fu + 1); omega), (by show _ ≤ 60 * (14 + (fu + 1)); omega)⟩ (w_rec hK hP (hNm _ (by omega)) ho_212_218 rfl) hP rfl hl.1 rfl (Nat.le_of_ble_eq_true rfl) d_Sht_search_164 ⟨Nat.le_of_ble_eq_true rfl, Nat.le_of_ble_eq_true rfl⟩ hS (fun q h => h) (fun r H locs hq _ hS => ?_)
                    obtain ⟨cn_423, rfl, hFb_423, hB_423, hP⟩ := hq
                    have hx_423_424 : cn_423 (14 + 3 * d) = .inr (2, [.ref (adr ((14 + 3 * d) + 1)), .ref (adr ((14 + 3 * d) + 2)), .int (bi ch)]) := (hFb_423 (14 + 3 * d) (by omega) (by omega) (by omega)).trans ho_212_213
                    have hx_423_425 : cn_423 ((14 + 3 * d) + 1) = .inl (cA 0, 10, .inl f) := (hFb_423 ((14 + 3 * d) + 1) (by omega) (by omega) (by omega)).trans ho_212_214
                    have hx_423_426 : cn_423 ((14 + 3 * d) + 2) = .inl (cA 0, 10, .inl g) := (hFb_423 ((14 + 3 * d) + 2) (by omega) (by omega) (by omega)).trans ho_212_215
                    have hx_423_427 : cn_423 0 = .inr (1, [.ref (adr 8), .int (x1 1), .ref (adr 1), .int (x1 3), .ref (adr 2), .ref (adr 3), .ref (adr 4), .ref (adr 5), .int (x1 8), .int (x1 9), .ref (adr 11), .int (x1 11), .ref (adr 6), .int (x1 13), .int z_211, .int (x1 15), .int (bi dn), .ref (adr 7), .int (x1 18)]) := (hFb_423 0 (by omega) (by omega) (by omega)).trans ho_212_216
                    have hx_423_428 : cn_423 6 = .inl (cA 5, 11, .inr (.inr (.inr (.inr (fun k => if k < 11 then some (adr (14 + 3 * k)) else none))))) := (hFb_423 6 (by omega) (by omega) (by omega)).trans ho_212_217
                    have hfr_423 : FrS (14 + 3 * (d + 1)) mm cn_212 cn_423 := FrS.b hFb_423
                    have hrl_423 : ∀ r, r < mm → RelAt adr cn_423 F r := fun r9 hr9 => (hC2.1.2.2.2.2 r9 hr9).fr (hFb_423 _ (by omega) (by omega) (by omega))
                    refine W.eq (g2 := F0 m 167 ls []) rfl ?_
                    refine lv_aload hx hb d_Sht_search_167 (lv_at hl 0 rfl) ?_
                    refine lv_iload_n hx hb d_Sht_search_169 rfl (lv_at hl 3 rfl) ?_
                    refine lv_iload hx hb d_Sht_search_170 (lv_at hl 1 rfl) ?_
                    refine lv_iload hx hb d_Sht_search_172 (lv_at hl 1 rfl) ?_
                    refine x_V (As := [.int z_1, .int z_421_0, .int z_421_0]) (rest := []) hx hb hml hown hK (k_Box_cut l D cA adr N hi cn_423 (14 + 3 * (d + 1)) (va_cpy f fn 0 0 10) (va_cpy g gn 0 0 10) cn9 ⟨hB_423.1, hB_423.2.1, hB_423.2.2⟩ ⟨hNm _ (by omega), hNm _ (by omega), hNm _ (by omega)⟩ kq z_1 z_421_0 z_421_0 hkz (by omega)) t_176 t_2 t_173 t_174 t_175 yk_Box_cut ⟨(by show _ ≤ 14 + (fu + 1); omega), (by show _ ≤ 60 * (14 + (fu + 1)); omega)⟩ (w_rec hK hP (hNm _ (by omega)) hB_423.1 rfl) hP rfl hl.1 rfl (Nat.le_of_ble_eq_true rfl) d_Sht_search_174 ⟨Nat.le_of_ble_eq_true rfl, Nat.le_of_ble_eq_true rfl⟩ hS (fun q h => h) (fun r H locs hq _ hS => ?_)
                    obtain ⟨cn_429, lo_429, hh_429, hlo_429, hhh_429, rfl, hFb_429, hB_429, hP⟩ := hq
                    obtain ⟨ch_429, hch_429⟩ : ∃ q : Bool, q = (cn9 || decide (((va_cpy f fn 0 0 10) kq).toInt < z_421_0.toInt ∨ z_421_0.toInt < ((va_cpy g gn 0 0 10) kq).toInt)) := ⟨_, rfl⟩
                    rw [← hch_429] at hB_429
                    have hx_429_430 : cn_429 (14 + 3 * d) = .inr (2, [.ref (adr ((14 + 3 * d) + 1)), .ref (adr ((14 + 3 * d) + 2)), .int (bi ch)]) := (hFb_429 (14 + 3 * d) (by omega) (by omega) (by omega)).trans hx_423_424
                    have hx_429_431 : cn_429 ((14 + 3 * d) + 1) = .inl (cA 0, 10, .inl f) := (hFb_429 ((14 + 3 * d) + 1) (by omega) (by omega) (by omega)).trans hx_423_425
                    have hx_429_432 : cn_429 ((14 + 3 * d) + 2) = .inl (cA 0, 10, .inl g) := (hFb_429 ((14 + 3 * d) + 2) (by omega) (by omega) (by omega)).trans hx_423_426
                    have hx_429_433 : cn_429 0 = .inr (1, [.ref (adr 8), .int (x1 1), .ref (adr 1), .int (x1 3), .ref (adr 2), .ref (adr 3), .ref (adr 4), .ref (adr 5), .int (x1 8), .int (x1 9), .ref (adr 11), .int (x1 11), .ref (adr 6), .int (x1 13), .int z_211, .int (x1 15), .int (bi dn), .ref (adr 7), .int (x1 18)]) := (hFb_429 0 (by omega) (by omega) (by omega)).trans hx_423_427
                    have hx_429_434 : cn_429 6 = .inl (cA 5, 11, .inr (.inr (.inr (.inr (fun k => if k < 11 then some (adr (14 + 3 * k)) else none))))) := (hFb_429 6 (by omega) (by omega) (by omega)).trans hx_423_428
                    have hfr_429 : FrS (14 + 3 * (d + 1)) mm cn_212 cn_429 := hfr_423.tr (FrS.b hFb_429)
                    have hrl_429 : ∀ r, r < mm → RelAt adr cn_429 F r := fun r9 hr9 => (hrl_423 r9 hr9).fr (hFb_429 _ (by omega) (by omega) (by omega))
                    refine W.eq (g2 := F0 m 177 ls [.int (bi (decide (lo_429.toInt ≤ hh_429.toInt)))]) rfl ?_
                    rw [hvl] at hlo_429 hhh_429
                    have hE0 : Eqb nn (tI (va_cpy f fn 0 0 10)) (tI (va_cpy g gn 0 0 10)) xq.1 xq.2 := fun j hj => by have e9 := hxx j hj; unfold tI va_cpy at *; rw [if_pos (by omega), if_pos (by omega)]; simpa using e9
                    have hCb := tI_cut (n := nn) (f := (va_cpy f fn 0 0 10)) (g := (va_cpy g gn 0 0 10)) (k := kq) hlo_429 hhh_429
                    have hEs := cutB_b (k := kq) (by omega) hE0 hCb; rw [cutB_v hvr] at hEs
                    have hk9 := hEs kq (by omega); rw [tI_up, tI_up] at hk9; simp only [setB, if_true] at hk9
                    have hsr : ∀ j, j < nn → -100 ≤ (setB xq kq (vlu ld dn xq kq ix)).1 j ∧ (setB xq kq (vlu ld dn xq kq ix)).1 j ≤ (setB xq kq (vlu ld dn xq kq ix)).2 j ∧ (setB xq kq (vlu ld dn xq kq ix)).2 j ≤ 100 := fun j hj => by have := hxr j hj; simp only [setB]; split <;> omega
                    refine b_bool_eq (tgt := 198) hx hb d_Sht_search_177 (by decide) (fun c_435 => ?_) (fun c_435 => ?_)
                    · have hc_435 := of_decide_eq_false c_435
                      exact absurd (Int.le_of_eq (hk9.1.trans hk9.2.symm)) hc_435
                    · have hc_435 := of_decide_eq_true c_435
                      refine lv_aload_n hx hb d_Sht_search_180 rfl (lv_at hl 5 rfl) ?_
                      refine lv_aload hx hb d_Sht_search_181 (lv_at hl 0 rfl) ?_
                      refine x_V (As := [.ref (adr (14 + 3 * (d + 1)))]) (rest := []) hx hb hml hown hK (k_Sht_settle l D cA adr N hi cn_429 F I nn mm x9 dn (hC2.1.fr (by omega) hfr_429 hrl_429) hNm hW (14 + 3 * (d + 1)) (upd (va_cpy f fn 0 0 10) kq lo_429) (upd (va_cpy g gn 0 0 10) kq hh_429) ch_429 ⟨hB_429.1, hB_429.2.1, hB_429.2.2⟩ (by omega) (fun j hj => by have a1 := hsr j hj; have a2 := hEs j hj; omega) (fun j hj => by have a1 := hsr j hj; have a2 := hEs j hj; omega)) t_186 t_1 t_183 t_185 ts_1 yk_Sht_settle ⟨(by show _ ≤ 14 + (fu + 1); omega), (by show _ ≤ 60 * (14 + (fu + 1)); omega)⟩ (w_rec hK hP (hNm 0 (by omega)) hx_429_433 rfl) hP rfl hl.1 rfl (Nat.le_of_ble_eq_true rfl) d_Sht_search_183 ⟨Nat.le_of_ble_eq_true rfl, Nat.le_of_ble_eq_true rfl⟩ hS (fun q h => h) (fun r H locs hq _ hS => ?_)
                      obtain ⟨cn_436, f_436, g_436, q_436, c_436, rfl, hFs_436, hRl_436, hB_436, hT_436, hF_436, hP⟩ := hq
                      have hx_436_437 : cn_436 (14 + 3 * d) = .inr (2, [.ref (adr ((14 + 3 * d) + 1)), .ref (adr ((14 + 3 * d) + 2)), .int (bi ch)]) := (hFs_436 (14 + 3 * d) (by omega) (by omega) (by omega) (by omega)).trans hx_429_430
                      have hx_436_438 : cn_436 ((14 + 3 * d) + 1) = .inl (cA 0, 10, .inl f) := (hFs_436 ((14 + 3 * d) + 1) (by omega) (by omega) (by omega) (by omega)).trans hx_429_431
                      have hx_436_439 : cn_436 ((14 + 3 * d) + 2) = .inl (cA 0, 10, .inl g) := (hFs_436 ((14 + 3 * d) + 2) (by omega) (by omega) (by omega) (by omega)).trans hx_429_432
                      have hx_436_440 : cn_436 0 = .inr (1, [.ref (adr 8), .int (x1 1), .ref (adr 1), .int (x1 3), .ref (adr 2), .ref (adr 3), .ref (adr 4), .ref (adr 5), .int (x1 8), .int (x1 9), .ref (adr 11), .int (x1 11), .ref (adr 6), .int (x1 13), .int z_211, .int (x1 15), .int (bi dn), .ref (adr 7), .int (x1 18)]) := (hFs_436 0 (by omega) (by omega) (by omega) (by omega)).trans hx_429_433
                      have hx_436_441 : cn_436 6 = .inl (cA 5, 11, .inr (.inr (.inr (.inr (fun k => if k < 11 then some (adr (14 + 3 * k)) else none))))) := (hFs_436 6 (by omega) (by omega) (by omega) (by omega)).trans hx_429_434
                      have hfr_436 : FrS (14 + 3 * (d + 1)) mm cn_212 cn_436 := hfr_429.tr hFs_436
                      refine W.eq (g2 := F0 m 186 ls [.int (bi q_436)]) rfl ?_
                      have hC9 := hC2.fr (d := d + 1) (by omega) hfr_436 hRl_436 hB_436
                      refine b_bool_eq (tgt := 198) hx hb d_Sht_search_186 (by decide) (fun c_442 => ?_) (fun c_442 => ?_)
                      · refine x_iinc (k := 8) (lv' := fun v_ => [(6, .int v_), (8, .ref (adr (14 + 3 * (d + 1)))), (7, .int z_421_0), (4, .int (bi b_203_0)), (3, .int z_1), (2, .ref (adr (14 + 3 * d))), (0, .ref (adr 0)), (1, .int xd), (5, .int x5)]) hx hb d_Sht_search_198 hl rfl h6 (by decide) (by omega) (by decide) (fun v_ => rfl) (fun z_443 tz_443 ls hl => ?_)
                        refine lv_goto (tgt := 75) hx hb d_Sht_search_201 (by decide) ?_
                        exact ih_204 (ix + 1) z_443 x5 cn_436 x9 _ _ _ (by omega) (by omega) (by omega) h13 h15 (fun k a1 a2 => (hfr_436 k (by omega) (by omega) (by omega) (by omega)).trans ((hks k (by omega)).trans (hkp k a1 a2))) (Or.inl ⟨hgz, s1 + 1, by omega, hT1.trans (tryL_none (by omega) hsl (stl_F hEs (hF_436 c_442))), hC9⟩) hP hS (lv_sub hl [3, 4, 5, 6, 7, 8, 0] rfl)
                      · obtain ⟨vl, vh, ev, gv⟩ := hT_436 c_442
                        obtain ⟨yq, hst, hEy⟩ := stl_T hEs gv ev
                        have hnx := stl_next hxr hkq.1 hkq.2 hvr hdf hst
                        refine lv_aload_n hx hb d_Sht_search_189 rfl (lv_at hl 5 rfl) ?_
                        refine lv_iload_n hx hb d_Sht_search_190 rfl (lv_at hl 6 rfl) ?_
                        refine lv_iconst (v := 1) hx hb d_Sht_search_191 (by decide) ?_
                        refine x_add hx hb d_Sht_search_192 hxd kc_1 (by omega) (fun z_444 tz_444 => ?_)
                        refine x_V (As := [.int z_444]) (rest := []) hx hb hml hown hK (ih cn_436 x9 (d + 1) z_444 yq (s1 + 1) hC9 (by rw [h13]; exact hlim) (by rw [h15]; exact hld) _ _ _ hB_436 hEy hnx.1 hnx.2 (by omega) (by omega) tz_444) t_703 t_1 t_700 t_702 ts_13 yk_Sht_search ⟨(by show _ ≤ 14 + (fu + 1); omega), (by show _ ≤ 60 * (14 + (fu + 1)); omega)⟩ (w_rec hK hP (hNm 0 (by omega)) hx_436_440 rfl) hP rfl hl.1 rfl (Nat.le_of_ble_eq_true rfl) d_Sht_search_193 ⟨Nat.le_of_ble_eq_true rfl, Nat.le_of_ble_eq_true rfl⟩ hS (fun q h => h) (fun r H locs hq _ hS => ?_)
                        obtain ⟨z_445, cn_445, x_445, rfl, hz_445, hCP_445, hle_445, h13_445, h15_445, hkp_445, hP⟩ := hq
                        refine W.eq (g2 := F0 m 196 ls [.int z_445]) rfl ?_
                        refine lv_istore (lv' := [(5, .int z_445), (8, .ref (adr (14 + 3 * (d + 1)))), (7, .int z_421_0), (4, .int (bi b_203_0)), (3, .int z_1), (2, .ref (adr (14 + 3 * d))), (0, .ref (adr 0)), (1, .int xd), (6, .int x6)]) hx hb d_Sht_search_196 hl (by decide) rfl (fun ls hl => ?_)
                        refine x_iinc (k := 8) (lv' := fun v_ => [(6, .int v_), (5, .int z_445), (8, .ref (adr (14 + 3 * (d + 1)))), (7, .int z_421_0), (4, .int (bi b_203_0)), (3, .int z_1), (2, .ref (adr (14 + 3 * d))), (0, .ref (adr 0)), (1, .int xd)]) hx hb d_Sht_search_198 hl rfl h6 (by decide) (by omega) (by decide) (fun v_ => rfl) (fun z_446 tz_446 ls hl => ?_)
                        refine lv_goto (tgt := 75) hx hb d_Sht_search_201 (by decide) ?_
                        exact ih_204 (ix + 1) z_446 z_445 cn_445 x_445 _ _ _ (by omega) (by omega) (by omega) (h13_445.trans h13) (h15_445.trans h15) (fun k a1 a2 => (hkp_445 k a1 (by omega)).trans ((hfr_436 k (by omega) (by omega) (by omega) (by omega)).trans ((hks k (by omega)).trans (hkp k a1 a2)))) (SrD.deep hz_445 (hT1.trans (tryL_some (by omega) hsl hst)) hCP_445 hle_445) hP hS (lv_sub hl [4, 5, 6, 7, 8, 1, 0] rfl)
                  refine b_bool_eq (tgt := 140) hx hb d_Sht_search_125 (by decide) (fun c_447 => ?_) (fun c_447 => ?_)
                  · refine lv_aload_n hx hb d_Sht_search_140 rfl (lv_at hl 2 rfl) ?_
                    refine w_gfN hx hb hK i_Box hown hP (hNm _ (by omega)) ho_212_213 rfl 0 (by decide) t_42 rfl rfl d_Sht_search_141 ?_
                    refine lv_iload_n hx hb d_Sht_search_144 rfl (lv_at hl 1 rfl) ?_
                    refine w_ld hx hb hK hP (hNm _ (by omega)) ho_212_214 (kq) hkz (by omega) (show kq < 10 by omega) d_Sht_search_145 (fun z_448 ez_448 => ?_)
                    subst ez_448
                    refine lv_iload hx hb d_Sht_search_146 (lv_at hl 6 rfl) ?_
                    refine x_add hx hb d_Sht_search_148 rfl h6 (by omega) (fun z_449 tz_449 => ?_)
                    exact K_421 z_449 (by first | omega | (simp [c_447]; done) | (simp [c_447]; omega) | (simp only [decide_eq_true_eq, decide_eq_false_iff_not]; omega))
                  · refine lv_aload_n hx hb d_Sht_search_128 rfl (lv_at hl 2 rfl) ?_
                    refine w_gfN hx hb hK i_Box hown hP (hNm _ (by omega)) ho_212_213 rfl 1 (by decide) t_48 rfl rfl d_Sht_search_129 ?_
                    refine lv_iload_n hx hb d_Sht_search_132 rfl (lv_at hl 1 rfl) ?_
                    refine w_ld hx hb hK hP (hNm _ (by omega)) ho_212_215 (kq) hkz (by omega) (show kq < 10 by omega) d_Sht_search_133 (fun z_450 ez_450 => ?_)
                    subst ez_450
                    refine lv_iload hx hb d_Sht_search_134 (lv_at hl 6 rfl) ?_
                    refine x_sub hx hb d_Sht_search_136 rfl h6 (by omega) (fun z_451 tz_451 => ?_)
                    refine lv_goto (tgt := 149) hx hb d_Sht_search_137 (by decide) ?_
                    exact K_421 z_451 (by first | omega | (simp [c_447]; done) | (simp [c_447]; omega) | (simp only [decide_eq_true_eq, decide_eq_false_iff_not]; omega))
                · refine lv_sipush (v := (-1000)) hx hb d_Sht_search_109 (by decide) ?_
                  refine e_i hx hb hr hlk hQ hS d_Sht_search_112 ?_
                  have hT2 := hT1.trans (tryL_lim (by omega) (by omega))
                  rw [hRT, hT2]
                  refine ⟨_, cn1, x1, rfl, kc_m1000, ?_, hs1, h13, h15, hkp, hP⟩
                  rw [J_fnd_ne (show ¬ (-1000 : Int) = 1 by decide), G_fnd_ne (show ¬ (-1000 : Int) = 1 by decide)]; exact hC1
        exact L_204 (_ + 1) 0 (0 : Int32) (0 : Int32) cn x _ _ _ (Nat.lt_succ_self _) (Nat.zero_le _) kc_0 rfl rfl (fun _ _ _ => rfl) (Or.inl ⟨kc_0, s0, hs0, rfl, hCP0⟩) hP hS (lv_sub hl [2, 3, 4, 5, 6, 1, 0] rfl)
      refine b_bool_eq (tgt := 66) hx hb d_Sht_search_51 (by decide) (fun c_452 => ?_) (fun c_452 => ?_)
      · refine lv_iconst (v := 0) hx hb d_Sht_search_66 (by decide) ?_
        exact K_203 false ⟨fun h => absurd h (by decide), fun h => absurd h (by first | omega | (simp [c_452]; done) | (simp [c_452]; omega) | (simp only [decide_eq_true_eq, decide_eq_false_iff_not]; omega))⟩
      · refine lv_iload_n hx hb d_Sht_search_54 rfl (lv_at hl 0 rfl) ?_
        refine lv_aload_n hx hb d_Sht_search_55 rfl (lv_at hl 2 rfl) ?_
        refine w_gf hx hb hK i_Sht hown hP (hNm 0 (by omega)) hSR.1 rfl 15 (by decide) t_100 rfl rfl d_Sht_search_56 ?_
        refine b_icmp_ne (tgt := 66) hx hb d_Sht_search_59 (by decide) hkz rfl (fun c_453 => ?_) (fun c_453 => ?_)
        · refine lv_iconst (v := 0) hx hb d_Sht_search_66 (by decide) ?_
          exact K_203 false ⟨fun h => absurd h (by decide), fun h => absurd h (by first | omega | (simp [c_452, c_453]; done) | (simp [c_452, c_453]; omega) | (simp only [decide_eq_true_eq, decide_eq_false_iff_not]; omega))⟩
        · refine lv_iconst (v := 1) hx hb d_Sht_search_62 (by decide) ?_
          refine lv_goto (tgt := 67) hx hb d_Sht_search_63 (by decide) ?_
          exact K_203 true ⟨fun _ => by first | omega | (simp [c_452, c_453]; done) | (simp [c_452, c_453]; omega) | (simp only [decide_eq_true_eq, decide_eq_false_iff_not]; omega), fun _ => rfl⟩
    · have hon : opn nn ld xq = none := by rcases ho_1 with h | ⟨k, _, h⟩; exact h.1; omega
      refine lv_aload_n hx hb d_Sht_search_20 rfl (lv_at hl 1 rfl) ?_
      refine w_gfN hx hb hK i_Box hown hP (hNm _ (by omega)) hB.1 rfl 0 (by decide) t_42 rfl rfl d_Sht_search_21 ?_
      refine lv_iconst (v := 0) hx hb d_Sht_search_24 (by decide) ?_
      refine lv_aload_n hx hb d_Sht_search_25 rfl (lv_at hl 2 rfl) ?_
      refine w_gf hx hb hK i_Sht hown hP (hNm 0 (by omega)) hSR.1 rfl 17 (by decide) t_102 rfl rfl d_Sht_search_26 ?_
      refine lv_iconst (v := 0) hx hb d_Sht_search_29 (by decide) ?_
      refine lv_aload_n hx hb d_Sht_search_30 rfl (lv_at hl 2 rfl) ?_
      refine w_gf hx hb hK i_Sht hown hP (hNm 0 (by omega)) hSR.1 rfl 1 (by decide) t_86 rfl rfl d_Sht_search_31 ?_
      refine w_cpy hx hb hml hown hK hl.1 t_712 hi hP hS wA_mem (hNm _ (by omega)) (hNm 7 (by omega)) hB.2.1 hc7 (nn) hv1 (by omega) (by omega) (by omega) ((by show _ ≤ 14 + (fu + 1); omega)) ((by show _ ≤ 60 * (14 + (fu + 1)); omega)) (Nat.le_of_ble_eq_true rfl) d_Sht_search_34 (fun H locs hP hS => ?_)
      obtain ⟨cn_454, ecn_454⟩ : ∃ q : Nat → va_E, q = va_up cn 7 (.inl (cA 0, 10, .inl (va_cpy f (F 33) 0 0 nn))) := ⟨_, rfl⟩
      have hP : va_P D classes (wl N adr cn_454) H := by rw [ecn_454]; exact hP
      have ho_454_455 : cn_454 0 = .inr (1, [.ref (adr 8), .int (x 1), .ref (adr 1), .int (x 3), .ref (adr 2), .ref (adr 3), .ref (adr 4), .ref (adr 5), .int (x 8), .int (x 9), .ref (adr 11), .int (x 11), .ref (adr 6), .int (x 13), .int (x 14), .int (x 15), .int (bi dn), .ref (adr 7), .int (x 18)]) := by rw [ecn_454, va_up_ne _ _ (by omega)]; exact hSR.1
      have ho_454_456 : cn_454 7 = .inl (cA 0, 10, .inl (va_cpy f (F 33) 0 0 nn)) := by rw [ecn_454]; exact va_up_self _ _ _
      have ho_454_457 : cn_454 6 = .inl (cA 5, 11, .inr (.inr (.inr (.inr (fun k => if k < 11 then some (adr (14 + 3 * k)) else none))))) := by rw [ecn_454, va_up_ne _ _ (by omega)]; exact hc6
      have ho_454_458 : cn_454 (14 + 3 * d) = .inr (2, [.ref (adr ((14 + 3 * d) + 1)), .ref (adr ((14 + 3 * d) + 2)), .int (bi ch)]) := by rw [ecn_454, va_up_ne _ _ (by omega)]; exact hB.1
      have ho_454_459 : cn_454 ((14 + 3 * d) + 1) = .inl (cA 0, 10, .inl f) := by rw [ecn_454, va_up_ne _ _ (by omega)]; exact hB.2.1
      have ho_454_460 : cn_454 ((14 + 3 * d) + 2) = .inl (cA 0, 10, .inl g) := by rw [ecn_454, va_up_ne _ _ (by omega)]; exact hB.2.2
      have hfr_454 : ∀ k, 14 ≤ k → k < 14 + 3 * (d + 1) → cn_454 k = cn k := fun k a1 a2 => (congrFun ecn_454 k).trans ((va_up_ne _ _ (by omega)).trans rfl)
      refine lv_aload_n hx hb d_Sht_search_37 rfl (lv_at hl 2 rfl) ?_
      refine lv_aload_n hx hb d_Sht_search_38 rfl (lv_at hl 2 rfl) ?_
      refine w_gf hx hb hK i_Sht hown hP (hNm 0 (by omega)) ho_454_455 rfl 1 (by decide) t_86 rfl rfl d_Sht_search_39 ?_
      refine w_pf hx hb hK i_Sht t_Sht t_Sht_ok n_Sht hown hi hP hS wA_mem (hNm 0 (by omega)) ho_454_455 rfl 18 (by decide) t_103 rfl rfl rfl rfl rfl d_Sht_search_42 (fun H locs hP hS => ?_)
      obtain ⟨cn_461, ecn_461⟩ : ∃ q : Nat → va_E, q = va_up cn_454 0 (.inr (1, [.ref (adr 8), .int (x 1), .ref (adr 1), .int (x 3), .ref (adr 2), .ref (adr 3), .ref (adr 4), .ref (adr 5), .int (x 8), .int (x 9), .ref (adr 11), .int (x 11), .ref (adr 6), .int (x 13), .int (x 14), .int (x 15), .int (bi dn), .ref (adr 7), .int (x 1)])) := ⟨_, rfl⟩
      have hP : va_P D classes (wl N adr cn_461) H := by rw [ecn_461]; exact hP
      have ho_461_462 : cn_461 0 = .inr (1, [.ref (adr 8), .int (x 1), .ref (adr 1), .int (x 3), .ref (adr 2), .ref (adr 3), .ref (adr 4), .ref (adr 5), .int (x 8), .int (x 9), .ref (adr 11), .int (x 11), .ref (adr 6), .int (x 13), .int (x 14), .int (x 15), .int (bi dn), .ref (adr 7), .int (x 1)]) := by rw [ecn_461]; exact va_up_self _ _ _
      have ho_461_463 : cn_461 7 = .inl (cA 0, 10, .inl (va_cpy f (F 33) 0 0 nn)) := by rw [ecn_461, va_up_ne _ _ (by omega)]; exact ho_454_456
      have ho_461_464 : cn_461 6 = .inl (cA 5, 11, .inr (.inr (.inr (.inr (fun k => if k < 11 then some (adr (14 + 3 * k)) else none))))) := by rw [ecn_461, va_up_ne _ _ (by omega)]; exact ho_454_457
      have ho_461_465 : cn_461 (14 + 3 * d) = .inr (2, [.ref (adr ((14 + 3 * d) + 1)), .ref (adr ((14 + 3 * d) + 2)), .int (bi ch)]) := by rw [ecn_461, va_up_ne _ _ (by omega)]; exact ho_454_458
      have ho_461_466 : cn_461 ((14 + 3 * d) + 1) = .inl (cA 0, 10, .inl f) := by rw [ecn_461, va_up_ne _ _ (by omega)]; exact ho_454_459
      have ho_461_467 : cn_461 ((14 + 3 * d) + 2) = .inl (cA 0, 10, .inl g) := by rw [ecn_461, va_up_ne _ _ (by omega)]; exact ho_454_460
      have hfr_461 : ∀ k, 14 ≤ k → k < 14 + 3 * (d + 1) → cn_461 k = cn k := fun k a1 a2 => (congrFun ecn_461 k).trans ((va_up_ne _ _ (by omega)).trans (hfr_454 k a1 a2))
      refine lv_iconst (v := 1) hx hb d_Sht_search_45 (by decide) ?_
      refine e_i hx hb hr hlk hQ hS d_Sht_search_46 ?_
      have hR : (srch (stl nn (FA F mm)) nn lim ld dn (fu + 1) xq s0) = (1, s0, xq) := by rw [srch, hon]
      rw [hR]
      refine ⟨_, cn_461, (va_up x 18 (x 1)), rfl, kc_1, ?_, hs0, rfl, rfl, hfr_461, hP⟩
      have hkk : ∀ k, k ≠ 0 → k ≠ 7 → cn_461 k = cn k := fun k a0 a7 => (congrFun ecn_461 k).trans ((va_up_ne _ _ a0).trans ((congrFun ecn_454 k).trans (va_up_ne _ _ a7)))
      refine CP.set (y := (va_up x 18 (x 1))) hCP0 ho_461_462 ⟨hx1, hx3, hx8, hx9, hx11, ?_, ?_⟩ ((hkk 3 (by omega) (by omega)).trans hc3) ((hkk 4 (by omega) (by omega)).trans hc4) ((hkk 5 (by omega) (by omega)).trans hc5) ?_ rfl rfl (fun k a0 _ _ _ a7 => hkk k a0 a7) (fun n _ _ _ a => va_up_ne _ _ a)
      · exact hx14
      · exact hx1
      · rw [ho_461_463, cpy_leaf hxx]; rfl
