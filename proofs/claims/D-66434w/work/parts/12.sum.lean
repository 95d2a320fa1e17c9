/-- two cuts, each only if the one before left something -/
theorem cut2 {n : Nat} {Fx : (Nat → Int) → (Nat → Int) → Prop} {a b : Nat} {f1 t1 f2 t2 : Int} {xl xh yl yh wl wh : Nat → Int} {c0 c1 c2 : Bool} {r : Bool} (hna : a < n) (hnb : b < n) (hn : Ne n xl xh)
    (h1 : Cutb n xl xh a f1 t1 yl yh) (hc1 : c1 = (c0 || decide (xl a < f1 ∨ t1 < xh a)))
    (h2 : yl a ≤ yh a → Cutb n yl yh b f2 t2 wl wh ∧ c2 = (c1 || decide (yl b < f2 ∨ t2 < yh b)))
    (j1 : ∀ bl bh, Sb n bl bh xl xh → Ne n bl bh → Fx bl bh → f1 ≤ bl a ∧ bh a ≤ t1) (j2 : yl a ≤ yh a → ∀ bl bh, Sb n bl bh yl yh → Ne n bl bh → Fx bl bh → f2 ≤ bl b ∧ bh b ≤ t2)
    (hr : r = true ↔ (yl a ≤ yh a ∧ wl b ≤ wh b)) (fin : Eqb n yl yh xl xh → f1 ≤ xl a ∧ xh a ≤ t1 → f2 ≤ xl b ∧ xh b ≤ t2 → Fx xl xh) :
    NOK n Fx xl xh r wl wh c0 c2 := by
  have P0 : PN n Fx xl xh xl xh c0 c0 := PN.rf hn
  have P1 := P0.cut hna h1 hc1 j1
  by_cases g1 : yl a ≤ yh a
  · have p1 := P1.1 g1
    obtain ⟨h2, hc2⟩ := h2 g1
    have P2 := p1.cut hnb h2 hc2 (j2 g1)
    by_cases g2 : wl b ≤ wh b
    · refine ⟨fun _ => ⟨P2.1 g2, fun he => ?_⟩, fun hf => absurd (hr.mpr ⟨g1, g2⟩) (by rw [hf]; decide)⟩
      have e1 : Eqb n yl yh xl xh := fun j hj => by
        have b1 := he j hj
        have b2 := h1.sb j hj
        have b3 := h2.sb j hj
        omega
      have e2 : Eqb n wl wh yl yh := fun j hj => by
        have b1 := he j hj
        have b2 := h1.sb j hj
        have b3 := h2.sb j hj
        omega
      have f1' := (h1.eq hna).mp e1
      have f2' := (h2.eq hnb).mp e2
      have d2 := e1 b hnb
      exact fin e1 f1' (by omega)
    · exact ⟨fun ht => absurd (hr.mp ht).2 g2, fun _ => P2.2 g2⟩
  · exact ⟨fun ht => absurd (hr.mp ht).1 g1, fun _ => P1.2 g1⟩
theorem cut3 {n : Nat} {Fx : (Nat → Int) → (Nat → Int) → Prop} {a b c : Nat} {f1 t1 f2 t2 f3 t3 : Int} {xl xh yl yh wl wh vl vh : Nat → Int} {c0 c1 c2 c3 : Bool} {r : Bool} (hna : a < n) (hnb : b < n) (hnc : c < n) (hn : Ne n xl xh)
    (h1 : Cutb n xl xh a f1 t1 yl yh) (hc1 : c1 = (c0 || decide (xl a < f1 ∨ t1 < xh a)))
    (h2 : yl a ≤ yh a → Cutb n yl yh b f2 t2 wl wh ∧ c2 = (c1 || decide (yl b < f2 ∨ t2 < yh b)))
    (h3 : yl a ≤ yh a → wl b ≤ wh b → Cutb n wl wh c f3 t3 vl vh ∧ c3 = (c2 || decide (wl c < f3 ∨ t3 < wh c)))
    (j1 : ∀ bl bh, Sb n bl bh xl xh → Ne n bl bh → Fx bl bh → f1 ≤ bl a ∧ bh a ≤ t1) (j2 : ∀ bl bh, Sb n bl bh xl xh → Ne n bl bh → Fx bl bh → f2 ≤ bl b ∧ bh b ≤ t2) (j3 : ∀ bl bh, Sb n bl bh xl xh → Ne n bl bh → Fx bl bh → f3 ≤ bl c ∧ bh c ≤ t3)
    (hr : r = true ↔ (yl a ≤ yh a ∧ wl b ≤ wh b ∧ vl c ≤ vh c)) (fin : f1 ≤ xl a ∧ xh a ≤ t1 → f2 ≤ xl b ∧ xh b ≤ t2 → f3 ≤ xl c ∧ xh c ≤ t3 → Fx xl xh) :
    NOK n Fx xl xh r vl vh c0 c3 := by
  have P0 : PN n Fx xl xh xl xh c0 c0 := PN.rf hn
  have P1 := P0.cut hna h1 hc1 j1
  by_cases g1 : yl a ≤ yh a
  · have p1 := P1.1 g1
    obtain ⟨h2, hc2⟩ := h2 g1
    have P2 := p1.cut hnb h2 hc2 (fun bl bh hs hn hf => j2 bl bh (hs.tr h1.sb) hn hf)
    by_cases g2 : wl b ≤ wh b
    · have p2 := P2.1 g2
      obtain ⟨h3, hc3⟩ := h3 g1 g2
      have P3 := p2.cut hnc h3 hc3 (fun bl bh hs hn hf => j3 bl bh (hs.tr (h2.sb.tr h1.sb)) hn hf)
      by_cases g3 : vl c ≤ vh c
      · refine ⟨fun _ => ⟨P3.1 g3, fun he => ?_⟩, fun hf => absurd (hr.mpr ⟨g1, g2, g3⟩) (by rw [hf]; decide)⟩
        have e1 : Eqb n yl yh xl xh := fun j hj => by
          have b1 := he j hj
          have b2 := h1.sb j hj
          have b3 := h2.sb j hj
          have b4 := h3.sb j hj
          omega
        have e2 : Eqb n wl wh yl yh := fun j hj => by
          have b1 := he j hj
          have b2 := h1.sb j hj
          have b3 := h2.sb j hj
          have b4 := h3.sb j hj
          omega
        have e3 : Eqb n vl vh wl wh := fun j hj => by
          have b1 := he j hj
          have b2 := h1.sb j hj
          have b3 := h2.sb j hj
          have b4 := h3.sb j hj
          omega
        have f1' := (h1.eq hna).mp e1
        have f2' := (h2.eq hnb).mp e2
        have f3' := (h3.eq hnc).mp e3
        have d2 := e1 b hnb
        have d3 := e1 c hnc
        have d4 := e2 c hnc
        exact fin f1' (by omega) (by omega)
      · exact ⟨fun ht => absurd (hr.mp ht).2.2 g3, fun _ => P3.2 g3⟩
    · exact ⟨fun ht => absurd (hr.mp ht).2.1 g2, fun _ => P2.2 g2⟩
  · exact ⟨fun ht => absurd (hr.mp ht).1 g1, fun _ => P1.2 g1⟩
/-- ends that a sum can have -/
theorem sum_just {a b c n : Nat} {xl xh bl bh : Nat → Int} (ha : a < n) (hb : b < n) (hc : c < n) (hs : Sb n bl bh xl xh) (h : Hull 0 a b c bl bh) :
    (xl c - xh b ≤ bl a ∧ bh a ≤ xh c - xl b) ∧ (xl c - xh a ≤ bl b ∧ bh b ≤ xh c - xl a) ∧ (xl a + xl b ≤ bl c ∧ bh c ≤ xh a + xh b) := by
  obtain ⟨⟨y1, z1, s1⟩, ⟨y2, z2, s2⟩, ⟨x3, z3, s3⟩, ⟨x4, z4, s4⟩, ⟨x5, y5, s5⟩, ⟨x6, y6, s6⟩⟩ := h
  have t1 := s1.mono hs ha hb hc
  have t2 := s2.mono hs ha hb hc
  have t3 := s3.mono hs ha hb hc
  have t4 := s4.mono hs ha hb hc
  have t5 := s5.mono hs ha hb hc
  have t6 := s6.mono hs ha hb hc
  have r1 : bl a + y1 = z1 := t1.2.2.2.2.2.2
  have r2 : bh a + y2 = z2 := t2.2.2.2.2.2.2
  have r3 : x3 + bl b = z3 := t3.2.2.2.2.2.2
  have r4 : x4 + bh b = z4 := t4.2.2.2.2.2.2
  have r5 : x5 + y5 = bl c := t5.2.2.2.2.2.2
  have r6 : x6 + y6 = bh c := t6.2.2.2.2.2.2
  obtain ⟨q11, q12, q13, -⟩ := t1
  obtain ⟨q21, q22, q23, -⟩ := t2
  obtain ⟨q31, q32, q33, -⟩ := t3
  obtain ⟨q41, q42, q43, -⟩ := t4
  obtain ⟨q51, q52, q53, -⟩ := t5
  obtain ⟨q61, q62, q63, -⟩ := t6
  omega
theorem sum_fin {a b c : Nat} {xl xh : Nat → Int} (hab : a ≠ b) (hac : a ≠ c) (hbc : b ≠ c) (hna : xl a ≤ xh a) (hnb : xl b ≤ xh b) (hnc : xl c ≤ xh c)
    (h1 : xl c - xh b ≤ xl a ∧ xh a ≤ xh c - xl b) (h2 : xl c - xh a ≤ xl b ∧ xh b ≤ xh c - xl a) (h3 : xl a + xl b ≤ xl c ∧ xh c ≤ xh a + xh b) : Hull 0 a b c xl xh := by
  have mk : ∀ x y z, xl a ≤ x ∧ x ≤ xh a → xl b ≤ y ∧ y ≤ xh b → xl c ≤ z ∧ z ≤ xh c → x + y = z → Sol 0 a b c xl xh x y z := fun x y z q1 q2 q3 q4 => ⟨q1, q2, q3, fun h => absurd h hab, fun h => absurd h hac, fun h => absurd h hbc, q4⟩
  refine ⟨⟨max (xl b) (xl c - xl a), _, mk _ _ _ ?_ ?_ ?_ rfl⟩, ⟨min (xh b) (xh c - xh a), _, mk _ _ _ ?_ ?_ ?_ rfl⟩, ⟨max (xl a) (xl c - xl b), _, mk _ _ _ ?_ ?_ ?_ rfl⟩, ⟨min (xh a) (xh c - xh b), _, mk _ _ _ ?_ ?_ ?_ rfl⟩, ⟨max (xl a) (xl c - xh b), xl c - max (xl a) (xl c - xh b), mk _ _ _ ?_ ?_ ?_ ?_⟩, ⟨min (xh a) (xh c - xl b), xh c - min (xh a) (xh c - xl b), mk _ _ _ ?_ ?_ ?_ ?_⟩⟩
  all_goals omega
theorem d_Mod_sum_0 : decode b_Mod_sum 0 = .ok (.bipush 10, 2) := by decide +kernel
theorem d_Mod_sum_2 : decode b_Mod_sum 2 = .ok (.iload_n 1, 1) := by decide +kernel
theorem d_Mod_sum_3 : decode b_Mod_sum 3 = .ok (.imul, 1) := by decide +kernel
theorem d_Mod_sum_4 : decode b_Mod_sum 4 = .ok (.istore 5, 2) := by decide +kernel
theorem d_Mod_sum_6 : decode b_Mod_sum 6 = .ok (.aload_n 0, 1) := by decide +kernel
theorem d_Mod_sum_7 : decode b_Mod_sum 7 = .ok (.getfield 50, 3) := by decide +kernel
theorem d_Mod_sum_10 : decode b_Mod_sum 10 = .ok (.iload 5, 2) := by decide +kernel
theorem d_Mod_sum_12 : decode b_Mod_sum 12 = .ok (.iload 4, 2) := by decide +kernel
theorem d_Mod_sum_14 : decode b_Mod_sum 14 = .ok (.iadd, 1) := by decide +kernel
theorem d_Mod_sum_15 : decode b_Mod_sum 15 = .ok (.iaload, 1) := by decide +kernel
theorem d_Mod_sum_16 : decode b_Mod_sum 16 = .ok (.aload_n 0, 1) := by decide +kernel
theorem d_Mod_sum_17 : decode b_Mod_sum 17 = .ok (.getfield 53, 3) := by decide +kernel
theorem d_Mod_sum_20 : decode b_Mod_sum 20 = .ok (.iload 5, 2) := by decide +kernel
theorem d_Mod_sum_22 : decode b_Mod_sum 22 = .ok (.iload_n 3, 1) := by decide +kernel
theorem d_Mod_sum_23 : decode b_Mod_sum 23 = .ok (.iadd, 1) := by decide +kernel
theorem d_Mod_sum_24 : decode b_Mod_sum 24 = .ok (.iaload, 1) := by decide +kernel
theorem d_Mod_sum_25 : decode b_Mod_sum 25 = .ok (.isub, 1) := by decide +kernel
theorem d_Mod_sum_26 : decode b_Mod_sum 26 = .ok (.istore 6, 2) := by decide +kernel
theorem d_Mod_sum_28 : decode b_Mod_sum 28 = .ok (.aload_n 0, 1) := by decide +kernel
theorem d_Mod_sum_29 : decode b_Mod_sum 29 = .ok (.getfield 53, 3) := by decide +kernel
theorem d_Mod_sum_32 : decode b_Mod_sum 32 = .ok (.iload 5, 2) := by decide +kernel
theorem d_Mod_sum_34 : decode b_Mod_sum 34 = .ok (.iload 4, 2) := by decide +kernel
theorem d_Mod_sum_36 : decode b_Mod_sum 36 = .ok (.iadd, 1) := by decide +kernel
theorem d_Mod_sum_37 : decode b_Mod_sum 37 = .ok (.iaload, 1) := by decide +kernel
theorem d_Mod_sum_38 : decode b_Mod_sum 38 = .ok (.aload_n 0, 1) := by decide +kernel
theorem d_Mod_sum_39 : decode b_Mod_sum 39 = .ok (.getfield 50, 3) := by decide +kernel
theorem d_Mod_sum_42 : decode b_Mod_sum 42 = .ok (.iload 5, 2) := by decide +kernel
theorem d_Mod_sum_44 : decode b_Mod_sum 44 = .ok (.iload_n 3, 1) := by decide +kernel
theorem d_Mod_sum_45 : decode b_Mod_sum 45 = .ok (.iadd, 1) := by decide +kernel
theorem d_Mod_sum_46 : decode b_Mod_sum 46 = .ok (.iaload, 1) := by decide +kernel
theorem d_Mod_sum_47 : decode b_Mod_sum 47 = .ok (.isub, 1) := by decide +kernel
theorem d_Mod_sum_48 : decode b_Mod_sum 48 = .ok (.istore 7, 2) := by decide +kernel
theorem d_Mod_sum_50 : decode b_Mod_sum 50 = .ok (.aload_n 0, 1) := by decide +kernel
theorem d_Mod_sum_51 : decode b_Mod_sum 51 = .ok (.getfield 50, 3) := by decide +kernel
theorem d_Mod_sum_54 : decode b_Mod_sum 54 = .ok (.iload 5, 2) := by decide +kernel
theorem d_Mod_sum_56 : decode b_Mod_sum 56 = .ok (.iload 4, 2) := by decide +kernel
theorem d_Mod_sum_58 : decode b_Mod_sum 58 = .ok (.iadd, 1) := by decide +kernel
theorem d_Mod_sum_59 : decode b_Mod_sum 59 = .ok (.iaload, 1) := by decide +kernel
theorem d_Mod_sum_60 : decode b_Mod_sum 60 = .ok (.aload_n 0, 1) := by decide +kernel
theorem d_Mod_sum_61 : decode b_Mod_sum 61 = .ok (.getfield 53, 3) := by decide +kernel
theorem d_Mod_sum_64 : decode b_Mod_sum 64 = .ok (.iload 5, 2) := by decide +kernel
theorem d_Mod_sum_66 : decode b_Mod_sum 66 = .ok (.iload_n 2, 1) := by decide +kernel
theorem d_Mod_sum_67 : decode b_Mod_sum 67 = .ok (.iadd, 1) := by decide +kernel
theorem d_Mod_sum_68 : decode b_Mod_sum 68 = .ok (.iaload, 1) := by decide +kernel
theorem d_Mod_sum_69 : decode b_Mod_sum 69 = .ok (.isub, 1) := by decide +kernel
theorem d_Mod_sum_70 : decode b_Mod_sum 70 = .ok (.istore 8, 2) := by decide +kernel
theorem d_Mod_sum_72 : decode b_Mod_sum 72 = .ok (.aload_n 0, 1) := by decide +kernel
theorem d_Mod_sum_73 : decode b_Mod_sum 73 = .ok (.getfield 53, 3) := by decide +kernel
theorem d_Mod_sum_76 : decode b_Mod_sum 76 = .ok (.iload 5, 2) := by decide +kernel
theorem d_Mod_sum_78 : decode b_Mod_sum 78 = .ok (.iload 4, 2) := by decide +kernel
theorem d_Mod_sum_80 : decode b_Mod_sum 80 = .ok (.iadd, 1) := by decide +kernel
theorem d_Mod_sum_81 : decode b_Mod_sum 81 = .ok (.iaload, 1) := by decide +kernel
theorem d_Mod_sum_82 : decode b_Mod_sum 82 = .ok (.aload_n 0, 1) := by decide +kernel
theorem d_Mod_sum_83 : decode b_Mod_sum 83 = .ok (.getfield 50, 3) := by decide +kernel
theorem d_Mod_sum_86 : decode b_Mod_sum 86 = .ok (.iload 5, 2) := by decide +kernel
theorem d_Mod_sum_88 : decode b_Mod_sum 88 = .ok (.iload_n 2, 1) := by decide +kernel
theorem d_Mod_sum_89 : decode b_Mod_sum 89 = .ok (.iadd, 1) := by decide +kernel
theorem d_Mod_sum_90 : decode b_Mod_sum 90 = .ok (.iaload, 1) := by decide +kernel
theorem d_Mod_sum_91 : decode b_Mod_sum 91 = .ok (.isub, 1) := by decide +kernel
theorem d_Mod_sum_92 : decode b_Mod_sum 92 = .ok (.istore 9, 2) := by decide +kernel
theorem d_Mod_sum_94 : decode b_Mod_sum 94 = .ok (.aload_n 0, 1) := by decide +kernel
theorem d_Mod_sum_95 : decode b_Mod_sum 95 = .ok (.getfield 50, 3) := by decide +kernel
theorem d_Mod_sum_98 : decode b_Mod_sum 98 = .ok (.iload 5, 2) := by decide +kernel
theorem d_Mod_sum_100 : decode b_Mod_sum 100 = .ok (.iload_n 2, 1) := by decide +kernel
theorem d_Mod_sum_101 : decode b_Mod_sum 101 = .ok (.iadd, 1) := by decide +kernel
theorem d_Mod_sum_102 : decode b_Mod_sum 102 = .ok (.iaload, 1) := by decide +kernel
theorem d_Mod_sum_103 : decode b_Mod_sum 103 = .ok (.aload_n 0, 1) := by decide +kernel
theorem d_Mod_sum_104 : decode b_Mod_sum 104 = .ok (.getfield 50, 3) := by decide +kernel
theorem d_Mod_sum_107 : decode b_Mod_sum 107 = .ok (.iload 5, 2) := by decide +kernel
theorem d_Mod_sum_109 : decode b_Mod_sum 109 = .ok (.iload_n 3, 1) := by decide +kernel
theorem d_Mod_sum_110 : decode b_Mod_sum 110 = .ok (.iadd, 1) := by decide +kernel
theorem d_Mod_sum_111 : decode b_Mod_sum 111 = .ok (.iaload, 1) := by decide +kernel
theorem d_Mod_sum_112 : decode b_Mod_sum 112 = .ok (.iadd, 1) := by decide +kernel
theorem d_Mod_sum_113 : decode b_Mod_sum 113 = .ok (.istore 10, 2) := by decide +kernel
theorem d_Mod_sum_115 : decode b_Mod_sum 115 = .ok (.aload_n 0, 1) := by decide +kernel
theorem d_Mod_sum_116 : decode b_Mod_sum 116 = .ok (.getfield 53, 3) := by decide +kernel
theorem d_Mod_sum_119 : decode b_Mod_sum 119 = .ok (.iload 5, 2) := by decide +kernel
theorem d_Mod_sum_121 : decode b_Mod_sum 121 = .ok (.iload_n 2, 1) := by decide +kernel
theorem d_Mod_sum_122 : decode b_Mod_sum 122 = .ok (.iadd, 1) := by decide +kernel
theorem d_Mod_sum_123 : decode b_Mod_sum 123 = .ok (.iaload, 1) := by decide +kernel
theorem d_Mod_sum_124 : decode b_Mod_sum 124 = .ok (.aload_n 0, 1) := by decide +kernel
theorem d_Mod_sum_125 : decode b_Mod_sum 125 = .ok (.getfield 53, 3) := by decide +kernel
theorem d_Mod_sum_128 : decode b_Mod_sum 128 = .ok (.iload 5, 2) := by decide +kernel
theorem d_Mod_sum_130 : decode b_Mod_sum 130 = .ok (.iload_n 3, 1) := by decide +kernel
theorem d_Mod_sum_131 : decode b_Mod_sum 131 = .ok (.iadd, 1) := by decide +kernel
theorem d_Mod_sum_132 : decode b_Mod_sum 132 = .ok (.iaload, 1) := by decide +kernel
theorem d_Mod_sum_133 : decode b_Mod_sum 133 = .ok (.iadd, 1) := by decide +kernel
theorem d_Mod_sum_134 : decode b_Mod_sum 134 = .ok (.istore 11, 2) := by decide +kernel
theorem d_Mod_sum_136 : decode b_Mod_sum 136 = .ok (.aload_n 0, 1) := by decide +kernel
theorem d_Mod_sum_137 : decode b_Mod_sum 137 = .ok (.iload_n 1, 1) := by decide +kernel
theorem d_Mod_sum_138 : decode b_Mod_sum 138 = .ok (.iload_n 2, 1) := by decide +kernel
theorem d_Mod_sum_139 : decode b_Mod_sum 139 = .ok (.iload 6, 2) := by decide +kernel
theorem d_Mod_sum_141 : decode b_Mod_sum 141 = .ok (.iload 7, 2) := by decide +kernel
theorem d_Mod_sum_143 : decode b_Mod_sum 143 = .ok (.invokevirtual 160, 3) := by decide +kernel
theorem d_Mod_sum_146 : decode b_Mod_sum 146 = .ok (.ifCond .eq 34, 3) := by decide +kernel
theorem d_Mod_sum_149 : decode b_Mod_sum 149 = .ok (.aload_n 0, 1) := by decide +kernel
theorem d_Mod_sum_150 : decode b_Mod_sum 150 = .ok (.iload_n 1, 1) := by decide +kernel
theorem d_Mod_sum_151 : decode b_Mod_sum 151 = .ok (.iload_n 3, 1) := by decide +kernel
theorem d_Mod_sum_152 : decode b_Mod_sum 152 = .ok (.iload 8, 2) := by decide +kernel
theorem d_Mod_sum_154 : decode b_Mod_sum 154 = .ok (.iload 9, 2) := by decide +kernel
theorem d_Mod_sum_156 : decode b_Mod_sum 156 = .ok (.invokevirtual 160, 3) := by decide +kernel
theorem d_Mod_sum_159 : decode b_Mod_sum 159 = .ok (.ifCond .eq 21, 3) := by decide +kernel
theorem d_Mod_sum_162 : decode b_Mod_sum 162 = .ok (.aload_n 0, 1) := by decide +kernel
theorem d_Mod_sum_163 : decode b_Mod_sum 163 = .ok (.iload_n 1, 1) := by decide +kernel
theorem d_Mod_sum_164 : decode b_Mod_sum 164 = .ok (.iload 4, 2) := by decide +kernel
theorem d_Mod_sum_166 : decode b_Mod_sum 166 = .ok (.iload 10, 2) := by decide +kernel
theorem d_Mod_sum_168 : decode b_Mod_sum 168 = .ok (.iload 11, 2) := by decide +kernel
theorem d_Mod_sum_170 : decode b_Mod_sum 170 = .ok (.invokevirtual 160, 3) := by decide +kernel
theorem d_Mod_sum_173 : decode b_Mod_sum 173 = .ok (.ifCond .eq 7, 3) := by decide +kernel
theorem d_Mod_sum_176 : decode b_Mod_sum 176 = .ok (.iconst 1, 1) := by decide +kernel
theorem d_Mod_sum_177 : decode b_Mod_sum 177 = .ok (.goto 4, 3) := by decide +kernel
theorem d_Mod_sum_180 : decode b_Mod_sum 180 = .ok (.iconst 0, 1) := by decide +kernel
theorem d_Mod_sum_181 : decode b_Mod_sum 181 = .ok (.ireturn, 1) := by decide +kernel
set_option maxHeartbeats 4000000 in
set_option maxRecDepth 20000 in
theorem k_Mod_sum (l : Launch) (D : va_G) (cA : Nat → ClassId) (adr : Nat → Nat) (hi : wI mN adr) (I : Nat → Int32) (F : Nat → Nat → Int32) (d nn ca cb cd : Nat) (xd xa xb xc : Int32) (ch : Bool) (hn : nn ≤ 10) (hd : d < 12) (hxd : xd.toInt = (d : Int)) (hxa : xa.toInt = (ca : Int)) (hxb : xb.toInt = (cb : Int)) (hxc : xc.toInt = (cd : Int)) (hca : ca < nn) (hcb : cb < nn) (hcd : cd < nn) (hab : ca ≠ cb) (hac : ca ≠ cd) (hbc : cb ≠ cd) (hch : I 20 = bi ch) (hne : Ne nn (bl F d) (bh F d)) (hrg : ∀ k, k < nn → -100 ≤ bl F d k ∧ bh F d k ≤ 100) : Ct l y_Mod_sum b_Mod_sum 12 (some .boolean) 5 D cA [.ref (adr 0), .int xd, .int xa, .int xb, .int xc] (fun H => MP D cA adr I F H) (fun r H => ∃ (I2 : Nat → Int32) (F2 : Nat → Nat → Int32) (q c2 : Bool), r = some (.int (bi q)) ∧ FrD d I I2 F F2 ∧ I2 20 = bi c2 ∧ NOK nn (Hull 0 ca cb cd) (bl F d) (bh F d) q (bl F2 d) (bh F2 d) ch c2 ∧ MP D cA adr I2 F2 H) (wA mN adr) := by
  refine Ct.mk (by decide) (Nat.le_of_ble_eq_true rfl) ?_
  intro p e s m args below meth c Q H locs ls hx hb hr hml hlk hown hin hK hQ hS hP hl
  have hl : lv_has ls 12 [(0, .ref (adr 0)), (1, .int xd), (2, .int xa), (3, .int xb), (4, .int xc)] := hl
  have hown : s.vm.findClass "RangeSheetModel" = some m.cls := hown
  have hrca := hrg ca hca; have hnca := hne ca hca; have hrcb := hrg cb hcb; have hncb := hne cb hcb; have hrcd := hrg cd hcd; have hncd := hne cd hcd; unfold bl bh at hrca hnca hrcb hncb hrcd hncd
  refine lv_bipush (v := 10) hx hb d_Mod_sum_0 (by decide) ?_
  refine lv_iload_n hx hb d_Mod_sum_2 rfl (lv_at hl 1 rfl) ?_
  refine x_mul hx hb d_Mod_sum_3 kc_10 hxd (by omega) (fun z_1 tz_1 => ?_)
  refine lv_istore (lv' := [(5, .int z_1), (0, .ref (adr 0)), (1, .int xd), (2, .int xa), (3, .int xb), (4, .int xc)]) hx hb d_Mod_sum_4 hl (by decide) rfl (fun ls hl => ?_)
  refine lv_aload_n hx hb d_Mod_sum_6 rfl (lv_at hl 1 rfl) ?_
  refine m_gr hx hb hK hown hP 18 (by decide) t_755 d_Mod_sum_7 ?_
  refine lv_iload hx hb d_Mod_sum_10 (lv_at hl 0 rfl) ?_
  refine lv_iload hx hb d_Mod_sum_12 (lv_at hl 5 rfl) ?_
  refine x_add hx hb d_Mod_sum_14 tz_1 hxc (by omega) (fun z_2 tz_2 => ?_)
  refine m_ld hx hb hK hP 18 (by decide) (((10 * d) + cd)) tz_2 (by omega) (show ((10 * d) + cd) < 120 by omega) d_Mod_sum_15 (fun z_3 ez_3 => ?_)
  subst ez_3
  refine lv_aload_n hx hb d_Mod_sum_16 rfl (lv_at hl 1 rfl) ?_
  refine m_gr hx hb hK hown hP 19 (by decide) t_756 d_Mod_sum_17 ?_
  refine lv_iload hx hb d_Mod_sum_20 (lv_at hl 0 rfl) ?_
  refine lv_iload_n hx hb d_Mod_sum_22 rfl (lv_at hl 4 rfl) ?_
  refine x_add hx hb d_Mod_sum_23 tz_1 hxb (by omega) (fun z_4 tz_4 => ?_)
  refine m_ld hx hb hK hP 19 (by decide) (((10 * d) + cb)) tz_4 (by omega) (show ((10 * d) + cb) < 120 by omega) d_Mod_sum_24 (fun z_5 ez_5 => ?_)
  subst ez_5
  refine x_sub hx hb d_Mod_sum_25 rfl rfl (by omega) (fun z_6 tz_6 => ?_)
  refine lv_istore (lv' := [(6, .int z_6), (5, .int z_1), (0, .ref (adr 0)), (1, .int xd), (2, .int xa), (3, .int xb), (4, .int xc)]) hx hb d_Mod_sum_26 hl (by decide) rfl (fun ls hl => ?_)
  refine lv_aload_n hx hb d_Mod_sum_28 rfl (lv_at hl 2 rfl) ?_
  refine m_gr hx hb hK hown hP 19 (by decide) t_756 d_Mod_sum_29 ?_
  refine lv_iload hx hb d_Mod_sum_32 (lv_at hl 1 rfl) ?_
  refine lv_iload hx hb d_Mod_sum_34 (lv_at hl 6 rfl) ?_
  refine x_add hx hb d_Mod_sum_36 tz_1 hxc (by omega) (fun z_7 tz_7 => ?_)
  refine m_ld hx hb hK hP 19 (by decide) (((10 * d) + cd)) tz_7 (by omega) (show ((10 * d) + cd) < 120 by omega) d_Mod_sum_37 (fun z_8 ez_8 => ?_)
  subst ez_8
  refine lv_aload_n hx hb d_Mod_sum_38 rfl (lv_at hl 2 rfl) ?_
  refine m_gr hx hb hK hown hP 18 (by decide) t_755 d_Mod_sum_39 ?_
  refine lv_iload hx hb d_Mod_sum_42 (lv_at hl 1 rfl) ?_
  refine lv_iload_n hx hb d_Mod_sum_44 rfl (lv_at hl 5 rfl) ?_
  refine x_add hx hb d_Mod_sum_45 tz_1 hxb (by omega) (fun z_9 tz_9 => ?_)
  refine m_ld hx hb hK hP 18 (by decide) (((10 * d) + cb)) tz_9 (by omega) (show ((10 * d) + cb) < 120 by omega) d_Mod_sum_46 (fun z_10 ez_10 => ?_)
  subst ez_10
  refine x_sub hx hb d_Mod_sum_47 rfl rfl (by omega) (fun z_11 tz_11 => ?_)
  refine lv_istore (lv' := [(7, .int z_11), (6, .int z_6), (5, .int z_1), (0, .ref (adr 0)), (1, .int xd), (2, .int xa), (3, .int xb), (4, .int xc)]) hx hb d_Mod_sum_48 hl (by decide) rfl (fun ls hl => ?_)
  refine lv_aload_n hx hb d_Mod_sum_50 rfl (lv_at hl 3 rfl) ?_
  refine m_gr hx hb hK hown hP 18 (by decide) t_755 d_Mod_sum_51 ?_
  refine lv_iload hx hb d_Mod_sum_54 (lv_at hl 2 rfl) ?_
  refine lv_iload hx hb d_Mod_sum_56 (lv_at hl 7 rfl) ?_
  refine x_add hx hb d_Mod_sum_58 tz_1 hxc (by omega) (fun z_12 tz_12 => ?_)
  refine m_ld hx hb hK hP 18 (by decide) (((10 * d) + cd)) tz_12 (by omega) (show ((10 * d) + cd) < 120 by omega) d_Mod_sum_59 (fun z_13 ez_13 => ?_)
  subst ez_13
  refine lv_aload_n hx hb d_Mod_sum_60 rfl (lv_at hl 3 rfl) ?_
  refine m_gr hx hb hK hown hP 19 (by decide) t_756 d_Mod_sum_61 ?_
  refine lv_iload hx hb d_Mod_sum_64 (lv_at hl 2 rfl) ?_
  refine lv_iload_n hx hb d_Mod_sum_66 rfl (lv_at hl 5 rfl) ?_
  refine x_add hx hb d_Mod_sum_67 tz_1 hxa (by omega) (fun z_14 tz_14 => ?_)
  refine m_ld hx hb hK hP 19 (by decide) (((10 * d) + ca)) tz_14 (by omega) (show ((10 * d) + ca) < 120 by omega) d_Mod_sum_68 (fun z_15 ez_15 => ?_)
  subst ez_15
  refine x_sub hx hb d_Mod_sum_69 rfl rfl (by omega) (fun z_16 tz_16 => ?_)
  refine lv_istore (lv' := [(8, .int z_16), (7, .int z_11), (6, .int z_6), (5, .int z_1), (0, .ref (adr 0)), (1, .int xd), (2, .int xa), (3, .int xb), (4, .int xc)]) hx hb d_Mod_sum_70 hl (by decide) rfl (fun ls hl => ?_)
  refine lv_aload_n hx hb d_Mod_sum_72 rfl (lv_at hl 4 rfl) ?_
  refine m_gr hx hb hK hown hP 19 (by decide) t_756 d_Mod_sum_73 ?_
  refine lv_iload hx hb d_Mod_sum_76 (lv_at hl 3 rfl) ?_
  refine lv_iload hx hb d_Mod_sum_78 (lv_at hl 8 rfl) ?_
  refine x_add hx hb d_Mod_sum_80 tz_1 hxc (by omega) (fun z_17 tz_17 => ?_)
  refine m_ld hx hb hK hP 19 (by decide) (((10 * d) + cd)) tz_17 (by omega) (show ((10 * d) + cd) < 120 by omega) d_Mod_sum_81 (fun z_18 ez_18 => ?_)
  subst ez_18
  refine lv_aload_n hx hb d_Mod_sum_82 rfl (lv_at hl 4 rfl) ?_
  refine m_gr hx hb hK hown hP 18 (by decide) t_755 d_Mod_sum_83 ?_
  refine lv_iload hx hb d_Mod_sum_86 (lv_at hl 3 rfl) ?_
  refine lv_iload_n hx hb d_Mod_sum_88 rfl (lv_at hl 6 rfl) ?_
  refine x_add hx hb d_Mod_sum_89 tz_1 hxa (by omega) (fun z_19 tz_19 => ?_)
  refine m_ld hx hb hK hP 18 (by decide) (((10 * d) + ca)) tz_19 (by omega) (show ((10 * d) + ca) < 120 by omega) d_Mod_sum_90 (fun z_20 ez_20 => ?_)
  subst ez_20
  refine x_sub hx hb d_Mod_sum_91 rfl rfl (by omega) (fun z_21 tz_21 => ?_)
  refine lv_istore (lv' := [(9, .int z_21), (8, .int z_16), (7, .int z_11), (6, .int z_6), (5, .int z_1), (0, .ref (adr 0)), (1, .int xd), (2, .int xa), (3, .int xb), (4, .int xc)]) hx hb d_Mod_sum_92 hl (by decide) rfl (fun ls hl => ?_)
  refine lv_aload_n hx hb d_Mod_sum_94 rfl (lv_at hl 5 rfl) ?_
  refine m_gr hx hb hK hown hP 18 (by decide) t_755 d_Mod_sum_95 ?_
  refine lv_iload hx hb d_Mod_sum_98 (lv_at hl 4 rfl) ?_
  refine lv_iload_n hx hb d_Mod_sum_100 rfl (lv_at hl 7 rfl) ?_
  refine x_add hx hb d_Mod_sum_101 tz_1 hxa (by omega) (fun z_22 tz_22 => ?_)
  refine m_ld hx hb hK hP 18 (by decide) (((10 * d) + ca)) tz_22 (by omega) (show ((10 * d) + ca) < 120 by omega) d_Mod_sum_102 (fun z_23 ez_23 => ?_)
  subst ez_23
  refine lv_aload_n hx hb d_Mod_sum_103 rfl (lv_at hl 5 rfl) ?_
  refine m_gr hx hb hK hown hP 18 (by decide) t_755 d_Mod_sum_104 ?_
  refine lv_iload hx hb d_Mod_sum_107 (lv_at hl 4 rfl) ?_
  refine lv_iload_n hx hb d_Mod_sum_109 rfl (lv_at hl 8 rfl) ?_
  refine x_add hx hb d_Mod_sum_110 tz_1 hxb (by omega) (fun z_24 tz_24 => ?_)
  refine m_ld hx hb hK hP 18 (by decide) (((10 * d) + cb)) tz_24 (by omega) (show ((10 * d) + cb) < 120 by omega) d_Mod_sum_111 (fun z_25 ez_25 => ?_)
  subst ez_25
  refine x_add hx hb d_Mod_sum_112 rfl rfl (by omega) (fun z_26 tz_26 => ?_)
  refine lv_istore (lv' := [(10, .int z_26), (9, .int z_21), (8, .int z_16), (7, .int z_11), (6, .int z_6), (5, .int z_1), (0, .ref (adr 0)), (1, .int xd), (2, .int xa), (3, .int xb), (4, .int xc)]) hx hb d_Mod_sum_113 hl (by decide) rfl (fun ls hl => ?_)
  refine lv_aload_n hx hb d_Mod_sum_115 rfl (lv_at hl 6 rfl) ?_
  refine m_gr hx hb hK hown hP 19 (by decide) t_756 d_Mod_sum_116 ?_
  refine lv_iload hx hb d_Mod_sum_119 (lv_at hl 5 rfl) ?_
  refine lv_iload_n hx hb d_Mod_sum_121 rfl (lv_at hl 8 rfl) ?_
  refine x_add hx hb d_Mod_sum_122 tz_1 hxa (by omega) (fun z_27 tz_27 => ?_)
  refine m_ld hx hb hK hP 19 (by decide) (((10 * d) + ca)) tz_27 (by omega) (show ((10 * d) + ca) < 120 by omega) d_Mod_sum_123 (fun z_28 ez_28 => ?_)
  subst ez_28
  refine lv_aload_n hx hb d_Mod_sum_124 rfl (lv_at hl 6 rfl) ?_
  refine m_gr hx hb hK hown hP 19 (by decide) t_756 d_Mod_sum_125 ?_
  refine lv_iload hx hb d_Mod_sum_128 (lv_at hl 5 rfl) ?_
  refine lv_iload_n hx hb d_Mod_sum_130 rfl (lv_at hl 9 rfl) ?_
  refine x_add hx hb d_Mod_sum_131 tz_1 hxb (by omega) (fun z_29 tz_29 => ?_)
  refine m_ld hx hb hK hP 19 (by decide) (((10 * d) + cb)) tz_29 (by omega) (show ((10 * d) + cb) < 120 by omega) d_Mod_sum_132 (fun z_30 ez_30 => ?_)
  subst ez_30
  refine x_add hx hb d_Mod_sum_133 rfl rfl (by omega) (fun z_31 tz_31 => ?_)
  refine lv_istore (lv' := [(11, .int z_31), (10, .int z_26), (9, .int z_21), (8, .int z_16), (7, .int z_11), (6, .int z_6), (5, .int z_1), (0, .ref (adr 0)), (1, .int xd), (2, .int xa), (3, .int xb), (4, .int xc)]) hx hb d_Mod_sum_134 hl (by decide) rfl (fun ls hl => ?_)
  refine lv_aload_n hx hb d_Mod_sum_136 rfl (lv_at hl 7 rfl) ?_
  refine lv_iload_n hx hb d_Mod_sum_137 rfl (lv_at hl 8 rfl) ?_
  refine lv_iload_n hx hb d_Mod_sum_138 rfl (lv_at hl 9 rfl) ?_
  refine lv_iload hx hb d_Mod_sum_139 (lv_at hl 5 rfl) ?_
  refine lv_iload hx hb d_Mod_sum_141 (lv_at hl 4 rfl) ?_
  refine x_V (As := [.int xd, .int xa, .int z_6, .int z_11]) (rest := []) hx hb hml hown hK (k_Mod_cut l D cA adr hi I F d ca xd xa z_6 z_11 ch hxd hxa (by omega) (by omega) hch) t_910 t_4 t_907 t_909 ts_20 yk_Mod_cut ⟨Nat.le_of_ble_eq_true rfl, Nat.le_of_ble_eq_true rfl⟩ (m_rec hK hP) hP rfl hl.1 rfl (Nat.le_of_ble_eq_true rfl) d_Mod_sum_143 ⟨Nat.le_of_ble_eq_true rfl, Nat.le_of_ble_eq_true rfl⟩ hS (fun q h => h) (fun r H locs hq _ hS => ?_)
  obtain ⟨lo_32, hh_32, hlo_32, hhh_32, rfl, hP⟩ := hq
  obtain ⟨ch_32, hch_32⟩ : ∃ q : Bool, q = (ch || decide ((F 18 (10 * d + ca)).toInt < z_6.toInt ∨ z_11.toInt < (F 19 (10 * d + ca)).toInt)) := ⟨_, rfl⟩
  rw [← hch_32] at hP
  refine W.eq (g2 := F0 m 146 ls [.int (bi (decide (lo_32.toInt ≤ hh_32.toInt)))]) rfl ?_
  refine b_bool_eq (tgt := 180) hx hb d_Mod_sum_146 (by decide) (fun c_33 => ?_) (fun c_33 => ?_)
  · refine lv_iconst (v := 0) hx hb d_Mod_sum_180 (by decide) ?_
    refine W.eq (g2 := F0 m 181 ls [.int (bi false)]) rfl ?_
    refine e_z hx hb hr hlk hQ hS d_Mod_sum_181 ?_
    refine ⟨_, _, false, ch_32, rfl, ?_, rfl, ?_, hP⟩
    · exact (FrD.cut (by omega))
    · have g := trivial
      have g0 : ¬ bl (cutF F (10 * d + ca) lo_32 hh_32) d ca ≤ bh (cutF F (10 * d + ca) lo_32 hh_32) d ca := by rw [cutF_l, cutF_h]; exact of_decide_eq_false c_33
      have J : ∀ bl' bh', Sb nn bl' bh' (bl F d) (bh F d) → Ne nn bl' bh' → Hull 0 ca cb cd bl' bh' → _ := fun _ _ hs _ hf => sum_just hca hcb hcd hs hf
      have e1 : z_6.toInt = bl F d cd - bh F d cb := tz_6; have e2 : z_11.toInt = bh F d cd - bl F d cb := tz_11; have e3 : z_16.toInt = bl F d cd - bh F d ca := tz_16; have e4 : z_21.toInt = bh F d cd - bl F d ca := tz_21; have e5 : z_26.toInt = bl F d ca + bl F d cb := tz_26; have e6 : z_31.toInt = bh F d ca + bh F d cb := tz_31
      exact cut3 (f2 := z_16.toInt) (t2 := z_21.toInt) (f3 := z_26.toInt) (t3 := z_31.toInt) (yl := bl (cutF F (10 * d + ca) lo_32 hh_32) d) (yh := bh (cutF F (10 * d + ca) lo_32 hh_32) d) (wl := bl (cutF F (10 * d + ca) lo_32 hh_32) d) (wh := bh (cutF F (10 * d + ca) lo_32 hh_32) d) (c1 := ch_32) (c2 := ch_32) hca hcb hcd hne (cutF_b hn hlo_32 hhh_32) hch_32 (fun h => absurd h g0) (fun h => absurd h g0) (fun _ _ a b c => by have := (J _ _ a b c).1; omega) (fun _ _ a b c => by have := (J _ _ a b c).2.1; omega) (fun _ _ a b c => by have := (J _ _ a b c).2.2; omega) ⟨fun h => absurd h (by decide), fun h => absurd h.1 g0⟩ (fun q1 q2 q3 => sum_fin hab hac hbc (hne ca hca) (hne cb hcb) (hne cd hcd) (by omega) (by omega) (by omega))
  · refine lv_aload_n hx hb d_Mod_sum_149 rfl (lv_at hl 7 rfl) ?_
    refine lv_iload_n hx hb d_Mod_sum_150 rfl (lv_at hl 8 rfl) ?_
    refine lv_iload_n hx hb d_Mod_sum_151 rfl (lv_at hl 10 rfl) ?_
    refine lv_iload hx hb d_Mod_sum_152 (lv_at hl 3 rfl) ?_
    refine lv_iload hx hb d_Mod_sum_154 (lv_at hl 2 rfl) ?_
    refine x_V (As := [.int xd, .int xb, .int z_16, .int z_21]) (rest := []) hx hb hml hown hK (k_Mod_cut l D cA adr hi (va_up I 20 (bi ch_32)) (cutF F (10 * d + ca) lo_32 hh_32) d cb xd xb z_16 z_21 ch_32 hxd hxb (by omega) (by omega) rfl) t_910 t_4 t_907 t_909 ts_20 yk_Mod_cut ⟨Nat.le_of_ble_eq_true rfl, Nat.le_of_ble_eq_true rfl⟩ (m_rec hK hP) hP rfl hl.1 rfl (Nat.le_of_ble_eq_true rfl) d_Mod_sum_156 ⟨Nat.le_of_ble_eq_true rfl, Nat.le_of_ble_eq_true rfl⟩ hS (fun q h => h) (fun r H locs hq _ hS => ?_)
    obtain ⟨lo_34, hh_34, hlo_34, hhh_34, rfl, hP⟩ := hq
    obtain ⟨ch_34, hch_34⟩ : ∃ q : Bool, q = (ch_32 || decide (((cutF F (10 * d + ca) lo_32 hh_32) 18 (10 * d + cb)).toInt < z_16.toInt ∨ z_21.toInt < ((cutF F (10 * d + ca) lo_32 hh_32) 19 (10 * d + cb)).toInt)) := ⟨_, rfl⟩
    rw [← hch_34] at hP
    refine W.eq (g2 := F0 m 159 ls [.int (bi (decide (lo_34.toInt ≤ hh_34.toInt)))]) rfl ?_
    refine b_bool_eq (tgt := 180) hx hb d_Mod_sum_159 (by decide) (fun c_35 => ?_) (fun c_35 => ?_)
    · refine lv_iconst (v := 0) hx hb d_Mod_sum_180 (by decide) ?_
      refine W.eq (g2 := F0 m 181 ls [.int (bi false)]) rfl ?_
      refine e_z hx hb hr hlk hQ hS d_Mod_sum_181 ?_
      refine ⟨_, _, false, ch_34, rfl, ?_, rfl, ?_, hP⟩
      · exact ((FrD.cut (by omega)).tr (FrD.cut (by omega)))
      · have g := trivial
        have g0 : bl (cutF F (10 * d + ca) lo_32 hh_32) d ca ≤ bh (cutF F (10 * d + ca) lo_32 hh_32) d ca := by rw [cutF_l, cutF_h]; exact of_decide_eq_true c_33
        have g1 : ¬ bl (cutF (cutF F (10 * d + ca) lo_32 hh_32) (10 * d + cb) lo_34 hh_34) d cb ≤ bh (cutF (cutF F (10 * d + ca) lo_32 hh_32) (10 * d + cb) lo_34 hh_34) d cb := by rw [cutF_l, cutF_h]; exact of_decide_eq_false c_35
        have J : ∀ bl' bh', Sb nn bl' bh' (bl F d) (bh F d) → Ne nn bl' bh' → Hull 0 ca cb cd bl' bh' → _ := fun _ _ hs _ hf => sum_just hca hcb hcd hs hf
        have e1 : z_6.toInt = bl F d cd - bh F d cb := tz_6; have e2 : z_11.toInt = bh F d cd - bl F d cb := tz_11; have e3 : z_16.toInt = bl F d cd - bh F d ca := tz_16; have e4 : z_21.toInt = bh F d cd - bl F d ca := tz_21; have e5 : z_26.toInt = bl F d ca + bl F d cb := tz_26; have e6 : z_31.toInt = bh F d ca + bh F d cb := tz_31
        exact cut3 (f2 := z_16.toInt) (t2 := z_21.toInt) (f3 := z_26.toInt) (t3 := z_31.toInt) (yl := bl (cutF F (10 * d + ca) lo_32 hh_32) d) (yh := bh (cutF F (10 * d + ca) lo_32 hh_32) d) (wl := bl (cutF (cutF F (10 * d + ca) lo_32 hh_32) (10 * d + cb) lo_34 hh_34) d) (wh := bh (cutF (cutF F (10 * d + ca) lo_32 hh_32) (10 * d + cb) lo_34 hh_34) d) (c1 := ch_32) (c2 := ch_34) hca hcb hcd hne (cutF_b hn hlo_32 hhh_32) hch_32 (fun _ => ⟨cutF_b hn hlo_34 hhh_34, hch_34⟩) (fun _ h => absurd h g1) (fun _ _ a b c => by have := (J _ _ a b c).1; omega) (fun _ _ a b c => by have := (J _ _ a b c).2.1; omega) (fun _ _ a b c => by have := (J _ _ a b c).2.2; omega) ⟨fun h => absurd h (by decide), fun h => absurd h.2.1 g1⟩ (fun q1 q2 q3 => sum_fin hab hac hbc (hne ca hca) (hne cb hcb) (hne cd hcd) (by omega) (by omega) (by omega))
    · refine lv_aload_n hx hb d_Mod_sum_162 rfl (lv_at hl 7 rfl) ?_
      refine lv_iload_n hx hb d_Mod_sum_163 rfl (lv_at hl 8 rfl) ?_
      refine lv_iload hx hb d_Mod_sum_164 (lv_at hl 11 rfl) ?_
      refine lv_iload hx hb d_Mod_sum_166 (lv_at hl 1 rfl) ?_
      refine lv_iload hx hb d_Mod_sum_168 (lv_at hl 0 rfl) ?_
      refine x_V (As := [.int xd, .int xc, .int z_26, .int z_31]) (rest := []) hx hb hml hown hK (k_Mod_cut l D cA adr hi (va_up (va_up I 20 (bi ch_32)) 20 (bi ch_34)) (cutF (cutF F (10 * d + ca) lo_32 hh_32) (10 * d + cb) lo_34 hh_34) d cd xd xc z_26 z_31 ch_34 hxd hxc (by omega) (by omega) rfl) t_910 t_4 t_907 t_909 ts_20 yk_Mod_cut ⟨Nat.le_of_ble_eq_true rfl, Nat.le_of_ble_eq_true rfl⟩ (m_rec hK hP) hP rfl hl.1 rfl (Nat.le_of_ble_eq_true rfl) d_Mod_sum_170 ⟨Nat.le_of_ble_eq_true rfl, Nat.le_of_ble_eq_true rfl⟩ hS (fun q h => h) (fun r H locs hq _ hS => ?_)
      obtain ⟨lo_36, hh_36, hlo_36, hhh_36, rfl, hP⟩ := hq
      obtain ⟨ch_36, hch_36⟩ : ∃ q : Bool, q = (ch_34 || decide (((cutF (cutF F (10 * d + ca) lo_32 hh_32) (10 * d + cb) lo_34 hh_34) 18 (10 * d + cd)).toInt < z_26.toInt ∨ z_31.toInt < ((cutF (cutF F (10 * d + ca) lo_32 hh_32) (10 * d + cb) lo_34 hh_34) 19 (10 * d + cd)).toInt)) := ⟨_, rfl⟩
      rw [← hch_36] at hP
      refine W.eq (g2 := F0 m 173 ls [.int (bi (decide (lo_36.toInt ≤ hh_36.toInt)))]) rfl ?_
      refine b_bool_eq (tgt := 180) hx hb d_Mod_sum_173 (by decide) (fun c_37 => ?_) (fun c_37 => ?_)
      · refine lv_iconst (v := 0) hx hb d_Mod_sum_180 (by decide) ?_
        refine W.eq (g2 := F0 m 181 ls [.int (bi false)]) rfl ?_
        refine e_z hx hb hr hlk hQ hS d_Mod_sum_181 ?_
        refine ⟨_, _, false, ch_36, rfl, ?_, rfl, ?_, hP⟩
        · exact (((FrD.cut (by omega)).tr (FrD.cut (by omega))).tr (FrD.cut (by omega)))
        · have g := trivial
          have g0 : bl (cutF F (10 * d + ca) lo_32 hh_32) d ca ≤ bh (cutF F (10 * d + ca) lo_32 hh_32) d ca := by rw [cutF_l, cutF_h]; exact of_decide_eq_true c_33
          have g1 : bl (cutF (cutF F (10 * d + ca) lo_32 hh_32) (10 * d + cb) lo_34 hh_34) d cb ≤ bh (cutF (cutF F (10 * d + ca) lo_32 hh_32) (10 * d + cb) lo_34 hh_34) d cb := by rw [cutF_l, cutF_h]; exact of_decide_eq_true c_35
          have g2 : ¬ bl (cutF (cutF (cutF F (10 * d + ca) lo_32 hh_32) (10 * d + cb) lo_34 hh_34) (10 * d + cd) lo_36 hh_36) d cd ≤ bh (cutF (cutF (cutF F (10 * d + ca) lo_32 hh_32) (10 * d + cb) lo_34 hh_34) (10 * d + cd) lo_36 hh_36) d cd := by rw [cutF_l, cutF_h]; exact of_decide_eq_false c_37
          have J : ∀ bl' bh', Sb nn bl' bh' (bl F d) (bh F d) → Ne nn bl' bh' → Hull 0 ca cb cd bl' bh' → _ := fun _ _ hs _ hf => sum_just hca hcb hcd hs hf
          have e1 : z_6.toInt = bl F d cd - bh F d cb := tz_6; have e2 : z_11.toInt = bh F d cd - bl F d cb := tz_11; have e3 : z_16.toInt = bl F d cd - bh F d ca := tz_16; have e4 : z_21.toInt = bh F d cd - bl F d ca := tz_21; have e5 : z_26.toInt = bl F d ca + bl F d cb := tz_26; have e6 : z_31.toInt = bh F d ca + bh F d cb := tz_31
          exact cut3 (f2 := z_16.toInt) (t2 := z_21.toInt) (f3 := z_26.toInt) (t3 := z_31.toInt) (yl := bl (cutF F (10 * d + ca) lo_32 hh_32) d) (yh := bh (cutF F (10 * d + ca) lo_32 hh_32) d) (wl := bl (cutF (cutF F (10 * d + ca) lo_32 hh_32) (10 * d + cb) lo_34 hh_34) d) (wh := bh (cutF (cutF F (10 * d + ca) lo_32 hh_32) (10 * d + cb) lo_34 hh_34) d) (c1 := ch_32) (c2 := ch_34) hca hcb hcd hne (cutF_b hn hlo_32 hhh_32) hch_32 (fun _ => ⟨cutF_b hn hlo_34 hhh_34, hch_34⟩) (fun _ _ => ⟨cutF_b hn hlo_36 hhh_36, hch_36⟩) (fun _ _ a b c => by have := (J _ _ a b c).1; omega) (fun _ _ a b c => by have := (J _ _ a b c).2.1; omega) (fun _ _ a b c => by have := (J _ _ a b c).2.2; omega) ⟨fun h => absurd h (by decide), fun h => absurd h.2.2 g2⟩ (fun q1 q2 q3 => sum_fin hab hac hbc (hne ca hca) (hne cb hcb) (hne cd hcd) (by omega) (by omega) (by omega))
      · refine lv_iconst (v := 1) hx hb d_Mod_sum_176 (by decide) ?_
        refine lv_goto (tgt := 181) hx hb d_Mod_sum_177 (by decide) ?_
        refine W.eq (g2 := F0 m 181 ls [.int (bi true)]) rfl ?_
        refine e_z hx hb hr hlk hQ hS d_Mod_sum_181 ?_
        refine ⟨_, _, true, ch_36, rfl, ?_, rfl, ?_, hP⟩
        · exact (((FrD.cut (by omega)).tr (FrD.cut (by omega))).tr (FrD.cut (by omega)))
        · have g := trivial
          have g0 : bl (cutF F (10 * d + ca) lo_32 hh_32) d ca ≤ bh (cutF F (10 * d + ca) lo_32 hh_32) d ca := by rw [cutF_l, cutF_h]; exact of_decide_eq_true c_33
          have g1 : bl (cutF (cutF F (10 * d + ca) lo_32 hh_32) (10 * d + cb) lo_34 hh_34) d cb ≤ bh (cutF (cutF F (10 * d + ca) lo_32 hh_32) (10 * d + cb) lo_34 hh_34) d cb := by rw [cutF_l, cutF_h]; exact of_decide_eq_true c_35
          have g2 : bl (cutF (cutF (cutF F (10 * d + ca) lo_32 hh_32) (10 * d + cb) lo_34 hh_34) (10 * d + cd) lo_36 hh_36) d cd ≤ bh (cutF (cutF (cutF F (10 * d + ca) lo_32 hh_32) (10 * d + cb) lo_34 hh_34) (10 * d + cd) lo_36 hh_36) d cd := by rw [cutF_l, cutF_h]; exact of_decide_eq_true c_37
          have J : ∀ bl' bh', Sb nn bl' bh' (bl F d) (bh F d) → Ne nn bl' bh' → Hull 0 ca cb cd bl' bh' → _ := fun _ _ hs _ hf => sum_just hca hcb hcd hs hf
          have e1 : z_6.toInt = bl F d cd - bh F d cb := tz_6; have e2 : z_11.toInt = bh F d cd - bl F d cb := tz_11; have e3 : z_16.toInt = bl F d cd - bh F d ca := tz_16; have e4 : z_21.toInt = bh F d cd - bl F d ca := tz_21; have e5 : z_26.toInt = bl F d ca + bl F d cb := tz_26; have e6 : z_31.toInt = bh F d ca + bh F d cb := tz_31
          exact cut3 (f2 := z_16.toInt) (t2 := z_21.toInt) (f3 := z_26.toInt) (t3 := z_31.toInt) (yl := bl (cutF F (10 * d + ca) lo_32 hh_32) d) (yh := bh (cutF F (10 * d + ca) lo_32 hh_32) d) (wl := bl (cutF (cutF F (10 * d + ca) lo_32 hh_32) (10 * d + cb) lo_34 hh_34) d) (wh := bh (cutF (cutF F (10 * d + ca) lo_32 hh_32) (10 * d + cb) lo_34 hh_34) d) (c1 := ch_32) (c2 := ch_34) hca hcb hcd hne (cutF_b hn hlo_32 hhh_32) hch_32 (fun _ => ⟨cutF_b hn hlo_34 hhh_34, hch_34⟩) (fun _ _ => ⟨cutF_b hn hlo_36 hhh_36, hch_36⟩) (fun _ _ a b c => by have := (J _ _ a b c).1; omega) (fun _ _ a b c => by have := (J _ _ a b c).2.1; omega) (fun _ _ a b c => by have := (J _ _ a b c).2.2; omega) ⟨fun _ => ⟨g0, g1, g2⟩, fun _ => rfl⟩ (fun q1 q2 q3 => sum_fin hab hac hbc (hne ca hca) (hne cb hcb) (hne cd hcd) (by omega) (by omega) (by omega))
