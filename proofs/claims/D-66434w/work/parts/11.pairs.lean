theorem bp_out {kk ca cb cd : Nat} {xl xh : Nat → Int} {x6 x9 z8 x y z : Int} (h8 : z8 = if ¬ (cb : Int) = (ca : Int) then xh cb else x6) (h : z8 < x9) (h6 : xl ca ≤ x6 ∧ x6 ≤ xh ca) : (Sol kk ca cb cd xl xh x y z ∧ (x < x6 ∨ (x = x6 ∧ y < x9))) ↔ (Sol kk ca cb cd xl xh x y z ∧ x < x6 + 1) := by
  constructor
  · rintro ⟨h1, h2⟩; exact ⟨h1, by omega⟩
  · rintro ⟨h1, h2⟩
    refine ⟨h1, ?_⟩
    obtain ⟨-, hy, -, hxy, -⟩ := h1
    by_cases e : x < x6
    · exact Or.inl e
    · refine Or.inr ⟨by omega, ?_⟩
      by_cases q : ca = cb
      · have := hxy q
        rw [if_neg (by omega)] at h8
        omega
      · rw [if_pos (by omega)] at h8
        omega
theorem bp_in {kk ca cb cd : Nat} {xl xh : Nat → Int} {x6 z7 x y z : Int} (h7 : z7 = if ¬ (cb : Int) = (ca : Int) then xl cb else x6) : (Sol kk ca cb cd xl xh x y z ∧ x < x6) ↔ (Sol kk ca cb cd xl xh x y z ∧ (x < x6 ∨ (x = x6 ∧ y < z7))) := by
  constructor
  · rintro ⟨h1, h2⟩; exact ⟨h1, Or.inl h2⟩
  · rintro ⟨h1, h2⟩
    refine ⟨h1, ?_⟩
    obtain ⟨-, hy, -, hxy, -⟩ := h1
    rcases h2 with q | ⟨q1, q2⟩
    · exact q
    · exfalso
      by_cases q : ca = cb
      · have := hxy q
        rw [if_neg (by omega)] at h7
        omega
      · rw [if_pos (by omega)] at h7
        omega
theorem bp_y {ca cb : Nat} {xl xh : Nat → Int} {x6 z7 z8 x9 : Int} (h7 : z7 = if ¬ (cb : Int) = (ca : Int) then xl cb else x6) (h8 : z8 = if ¬ (cb : Int) = (ca : Int) then xh cb else x6) (h6 : xl ca ≤ x6 ∧ x6 ≤ xh ca) (h9 : z7 ≤ x9 ∧ x9 ≤ z8) : (xl cb ≤ x9 ∧ x9 ≤ xh cb) ∧ (ca = cb → x6 = x9) := by
  by_cases q : ca = cb
  · subst q
    rw [if_neg (by omega)] at h7 h8
    exact ⟨by omega, fun _ => by omega⟩
  · rw [if_pos (by omega)] at h7 h8
    exact ⟨by omega, fun h => absurd h q⟩
theorem bp_rg {ca cb : Nat} {xl xh : Nat → Int} {x6 z7 z8 : Int} (h7 : z7 = if ¬ (cb : Int) = (ca : Int) then xl cb else x6) (h8 : z8 = if ¬ (cb : Int) = (ca : Int) then xh cb else x6) (h6 : -100 ≤ x6 ∧ x6 ≤ 100) (hb : -100 ≤ xl cb ∧ xl cb ≤ xh cb ∧ xh cb ≤ 100) : -100 ≤ z7 ∧ z7 ≤ z8 ∧ z8 ≤ 100 := by
  by_cases q : (cb : Int) = (ca : Int)
  · rw [if_neg (by omega)] at h7 h8; omega
  · rw [if_pos q] at h7 h8; omega
theorem bp_step {kk ca cb cd : Nat} {xl xh : Nat → Int} {x6 x9 f t : Int} {I2 I3 : Nat → Int32} (hE : EI (fun x y z => Sol kk ca cb cd xl xh x y z ∧ (x < x6 ∨ (x = x6 ∧ y < x9))) I2) (hN : NoteR I2 I3 x6 x9 f t) (hZ : ∀ z, Sol kk ca cb cd xl xh x6 x9 z ↔ f ≤ z ∧ z ≤ t)
    (hr : -400 ≤ x6 ∧ x6 ≤ 400 ∧ -400 ≤ x9 ∧ x9 ≤ 400 ∧ -400 ≤ f ∧ t ≤ 400) : EI (fun x y z => Sol kk ca cb cd xl xh x y z ∧ (x < x6 ∨ (x = x6 ∧ y < x9 + 1))) I3 := by
  refine (hN.ends hE hr).congr (fun x y z => ?_)
  constructor
  · rintro (h | ⟨rfl, rfl, q3, q4⟩)
    · exact ⟨h.1, by omega⟩
    · exact ⟨(hZ z).mpr ⟨q3, q4⟩, by omega⟩
  · rintro ⟨h1, h2⟩
    by_cases q : x < x6 ∨ (x = x6 ∧ y < x9)
    · exact Or.inl ⟨h1, q⟩
    · right
      have q1 : x = x6 := by omega
      have q2 : y = x9 := by omega
      subst q1; subst q2
      exact ⟨rfl, rfl, (hZ z).mp h1⟩
theorem cutF_l {F : Nat → Nat → Int32} {d k : Nat} {lo hh : Int32} : bl (cutF F (10 * d + k) lo hh) d k = lo.toInt := by simp [bl, cutF, va_up, upd]
theorem cutF_h {F : Nat → Nat → Int32} {d k : Nat} {lo hh : Int32} : bh (cutF F (10 * d + k) lo hh) d k = hh.toInt := by simp [bh, cutF, va_up, upd]
theorem thirdI_rg (k : Nat) (x y : Int) (hx : -100 ≤ x ∧ x ≤ 101) (hy : -100 ≤ y ∧ y ≤ 101) : -40000 ≤ thirdI k x y ∧ thirdI k x y ≤ 40000 := by
  have h1 := mul_bd (x := x) (y := y) (by omega) (by omega)
  have h2 : -40000 ≤ x * y ∧ x * y ≤ 40000 := by
    have e := Int.natAbs_mul x y
    have : x.natAbs * y.natAbs ≤ 101 * 101 := Nat.mul_le_mul (by omega) (by omega)
    omega
  have h3 : y ≠ 0 → -200 ≤ fl x y ∧ fl x y ≤ 200 := by
    intro hy0
    have a1 := fl_t x y hy0
    have a2 := tq_abs x y
    omega
  unfold thirdI
  repeat' split
  all_goals omega
theorem d_Mod_byPairs_0 : decode b_Mod_byPairs 0 = .ok (.aload_n 0, 1) := by decide +kernel
theorem d_Mod_byPairs_1 : decode b_Mod_byPairs 1 = .ok (.getfield 19, 3) := by decide +kernel
theorem d_Mod_byPairs_4 : decode b_Mod_byPairs 4 = .ok (.iload_n 1, 1) := by decide +kernel
theorem d_Mod_byPairs_5 : decode b_Mod_byPairs 5 = .ok (.iaload, 1) := by decide +kernel
theorem d_Mod_byPairs_6 : decode b_Mod_byPairs 6 = .ok (.istore_n 3, 1) := by decide +kernel
theorem d_Mod_byPairs_7 : decode b_Mod_byPairs 7 = .ok (.aload_n 0, 1) := by decide +kernel
theorem d_Mod_byPairs_8 : decode b_Mod_byPairs 8 = .ok (.getfield 22, 3) := by decide +kernel
theorem d_Mod_byPairs_11 : decode b_Mod_byPairs 11 = .ok (.iload_n 1, 1) := by decide +kernel
theorem d_Mod_byPairs_12 : decode b_Mod_byPairs 12 = .ok (.iaload, 1) := by decide +kernel
theorem d_Mod_byPairs_13 : decode b_Mod_byPairs 13 = .ok (.istore 4, 2) := by decide +kernel
theorem d_Mod_byPairs_15 : decode b_Mod_byPairs 15 = .ok (.aload_n 0, 1) := by decide +kernel
theorem d_Mod_byPairs_16 : decode b_Mod_byPairs 16 = .ok (.getfield 25, 3) := by decide +kernel
theorem d_Mod_byPairs_19 : decode b_Mod_byPairs 19 = .ok (.iload_n 1, 1) := by decide +kernel
theorem d_Mod_byPairs_20 : decode b_Mod_byPairs 20 = .ok (.iaload, 1) := by decide +kernel
theorem d_Mod_byPairs_21 : decode b_Mod_byPairs 21 = .ok (.istore 5, 2) := by decide +kernel
theorem d_Mod_byPairs_23 : decode b_Mod_byPairs 23 = .ok (.aload_n 0, 1) := by decide +kernel
theorem d_Mod_byPairs_24 : decode b_Mod_byPairs 24 = .ok (.invokevirtual 149, 3) := by decide +kernel
theorem d_Mod_byPairs_27 : decode b_Mod_byPairs 27 = .ok (.aload_n 0, 1) := by decide +kernel
theorem d_Mod_byPairs_28 : decode b_Mod_byPairs 28 = .ok (.getfield 50, 3) := by decide +kernel
theorem d_Mod_byPairs_31 : decode b_Mod_byPairs 31 = .ok (.bipush 10, 2) := by decide +kernel
theorem d_Mod_byPairs_33 : decode b_Mod_byPairs 33 = .ok (.iload_n 2, 1) := by decide +kernel
theorem d_Mod_byPairs_34 : decode b_Mod_byPairs 34 = .ok (.imul, 1) := by decide +kernel
theorem d_Mod_byPairs_35 : decode b_Mod_byPairs 35 = .ok (.iload_n 3, 1) := by decide +kernel
theorem d_Mod_byPairs_36 : decode b_Mod_byPairs 36 = .ok (.iadd, 1) := by decide +kernel
theorem d_Mod_byPairs_37 : decode b_Mod_byPairs 37 = .ok (.iaload, 1) := by decide +kernel
theorem d_Mod_byPairs_38 : decode b_Mod_byPairs 38 = .ok (.istore 6, 2) := by decide +kernel
theorem d_Mod_byPairs_40 : decode b_Mod_byPairs 40 = .ok (.iload 6, 2) := by decide +kernel
theorem d_Mod_byPairs_42 : decode b_Mod_byPairs 42 = .ok (.aload_n 0, 1) := by decide +kernel
theorem d_Mod_byPairs_43 : decode b_Mod_byPairs 43 = .ok (.getfield 53, 3) := by decide +kernel
theorem d_Mod_byPairs_46 : decode b_Mod_byPairs 46 = .ok (.bipush 10, 2) := by decide +kernel
theorem d_Mod_byPairs_48 : decode b_Mod_byPairs 48 = .ok (.iload_n 2, 1) := by decide +kernel
theorem d_Mod_byPairs_49 : decode b_Mod_byPairs 49 = .ok (.imul, 1) := by decide +kernel
theorem d_Mod_byPairs_50 : decode b_Mod_byPairs 50 = .ok (.iload_n 3, 1) := by decide +kernel
theorem d_Mod_byPairs_51 : decode b_Mod_byPairs 51 = .ok (.iadd, 1) := by decide +kernel
theorem d_Mod_byPairs_52 : decode b_Mod_byPairs 52 = .ok (.iaload, 1) := by decide +kernel
theorem d_Mod_byPairs_53 : decode b_Mod_byPairs 53 = .ok (.if_icmp .gt 208, 3) := by decide +kernel
theorem d_Mod_byPairs_56 : decode b_Mod_byPairs 56 = .ok (.iload 4, 2) := by decide +kernel
theorem d_Mod_byPairs_58 : decode b_Mod_byPairs 58 = .ok (.iload_n 3, 1) := by decide +kernel
theorem d_Mod_byPairs_59 : decode b_Mod_byPairs 59 = .ok (.if_icmp .ne 8, 3) := by decide +kernel
theorem d_Mod_byPairs_62 : decode b_Mod_byPairs 62 = .ok (.iload 6, 2) := by decide +kernel
theorem d_Mod_byPairs_64 : decode b_Mod_byPairs 64 = .ok (.goto 15, 3) := by decide +kernel
theorem d_Mod_byPairs_67 : decode b_Mod_byPairs 67 = .ok (.aload_n 0, 1) := by decide +kernel
theorem d_Mod_byPairs_68 : decode b_Mod_byPairs 68 = .ok (.getfield 50, 3) := by decide +kernel
theorem d_Mod_byPairs_71 : decode b_Mod_byPairs 71 = .ok (.bipush 10, 2) := by decide +kernel
theorem d_Mod_byPairs_73 : decode b_Mod_byPairs 73 = .ok (.iload_n 2, 1) := by decide +kernel
theorem d_Mod_byPairs_74 : decode b_Mod_byPairs 74 = .ok (.imul, 1) := by decide +kernel
theorem d_Mod_byPairs_75 : decode b_Mod_byPairs 75 = .ok (.iload 4, 2) := by decide +kernel
theorem d_Mod_byPairs_77 : decode b_Mod_byPairs 77 = .ok (.iadd, 1) := by decide +kernel
theorem d_Mod_byPairs_78 : decode b_Mod_byPairs 78 = .ok (.iaload, 1) := by decide +kernel
theorem d_Mod_byPairs_79 : decode b_Mod_byPairs 79 = .ok (.istore 7, 2) := by decide +kernel
theorem d_Mod_byPairs_81 : decode b_Mod_byPairs 81 = .ok (.iload 4, 2) := by decide +kernel
theorem d_Mod_byPairs_83 : decode b_Mod_byPairs 83 = .ok (.iload_n 3, 1) := by decide +kernel
theorem d_Mod_byPairs_84 : decode b_Mod_byPairs 84 = .ok (.if_icmp .ne 8, 3) := by decide +kernel
theorem d_Mod_byPairs_87 : decode b_Mod_byPairs 87 = .ok (.iload 6, 2) := by decide +kernel
theorem d_Mod_byPairs_89 : decode b_Mod_byPairs 89 = .ok (.goto 15, 3) := by decide +kernel
theorem d_Mod_byPairs_92 : decode b_Mod_byPairs 92 = .ok (.aload_n 0, 1) := by decide +kernel
theorem d_Mod_byPairs_93 : decode b_Mod_byPairs 93 = .ok (.getfield 53, 3) := by decide +kernel
theorem d_Mod_byPairs_96 : decode b_Mod_byPairs 96 = .ok (.bipush 10, 2) := by decide +kernel
theorem d_Mod_byPairs_98 : decode b_Mod_byPairs 98 = .ok (.iload_n 2, 1) := by decide +kernel
theorem d_Mod_byPairs_99 : decode b_Mod_byPairs 99 = .ok (.imul, 1) := by decide +kernel
theorem d_Mod_byPairs_100 : decode b_Mod_byPairs 100 = .ok (.iload 4, 2) := by decide +kernel
theorem d_Mod_byPairs_102 : decode b_Mod_byPairs 102 = .ok (.iadd, 1) := by decide +kernel
theorem d_Mod_byPairs_103 : decode b_Mod_byPairs 103 = .ok (.iaload, 1) := by decide +kernel
theorem d_Mod_byPairs_104 : decode b_Mod_byPairs 104 = .ok (.istore 8, 2) := by decide +kernel
theorem d_Mod_byPairs_106 : decode b_Mod_byPairs 106 = .ok (.iload 7, 2) := by decide +kernel
theorem d_Mod_byPairs_108 : decode b_Mod_byPairs 108 = .ok (.istore 9, 2) := by decide +kernel
theorem d_Mod_byPairs_110 : decode b_Mod_byPairs 110 = .ok (.iload 9, 2) := by decide +kernel
theorem d_Mod_byPairs_112 : decode b_Mod_byPairs 112 = .ok (.iload 8, 2) := by decide +kernel
theorem d_Mod_byPairs_114 : decode b_Mod_byPairs 114 = .ok (.if_icmp .gt 141, 3) := by decide +kernel
theorem d_Mod_byPairs_117 : decode b_Mod_byPairs 117 = .ok (.aload_n 0, 1) := by decide +kernel
theorem d_Mod_byPairs_118 : decode b_Mod_byPairs 118 = .ok (.getfield 16, 3) := by decide +kernel
theorem d_Mod_byPairs_121 : decode b_Mod_byPairs 121 = .ok (.iload_n 1, 1) := by decide +kernel
theorem d_Mod_byPairs_122 : decode b_Mod_byPairs 122 = .ok (.iaload, 1) := by decide +kernel
theorem d_Mod_byPairs_123 : decode b_Mod_byPairs 123 = .ok (.iload 6, 2) := by decide +kernel
theorem d_Mod_byPairs_125 : decode b_Mod_byPairs 125 = .ok (.iload 9, 2) := by decide +kernel
theorem d_Mod_byPairs_127 : decode b_Mod_byPairs 127 = .ok (.invokestatic 152, 3) := by decide +kernel
theorem d_Mod_byPairs_130 : decode b_Mod_byPairs 130 = .ok (.istore 10, 2) := by decide +kernel
theorem d_Mod_byPairs_132 : decode b_Mod_byPairs 132 = .ok (.aload_n 0, 1) := by decide +kernel
theorem d_Mod_byPairs_133 : decode b_Mod_byPairs 133 = .ok (.getfield 16, 3) := by decide +kernel
theorem d_Mod_byPairs_136 : decode b_Mod_byPairs 136 = .ok (.iload_n 1, 1) := by decide +kernel
theorem d_Mod_byPairs_137 : decode b_Mod_byPairs 137 = .ok (.iaload, 1) := by decide +kernel
theorem d_Mod_byPairs_138 : decode b_Mod_byPairs 138 = .ok (.bipush 6, 2) := by decide +kernel
theorem d_Mod_byPairs_140 : decode b_Mod_byPairs 140 = .ok (.if_icmp .ne 9, 3) := by decide +kernel
theorem d_Mod_byPairs_143 : decode b_Mod_byPairs 143 = .ok (.sipush 400, 3) := by decide +kernel
theorem d_Mod_byPairs_146 : decode b_Mod_byPairs 146 = .ok (.goto 5, 3) := by decide +kernel
theorem d_Mod_byPairs_149 : decode b_Mod_byPairs 149 = .ok (.iload 10, 2) := by decide +kernel
theorem d_Mod_byPairs_151 : decode b_Mod_byPairs 151 = .ok (.istore 11, 2) := by decide +kernel
theorem d_Mod_byPairs_153 : decode b_Mod_byPairs 153 = .ok (.iload 5, 2) := by decide +kernel
theorem d_Mod_byPairs_155 : decode b_Mod_byPairs 155 = .ok (.iload_n 3, 1) := by decide +kernel
theorem d_Mod_byPairs_156 : decode b_Mod_byPairs 156 = .ok (.if_icmp .ne 8, 3) := by decide +kernel
theorem d_Mod_byPairs_159 : decode b_Mod_byPairs 159 = .ok (.iload 6, 2) := by decide +kernel
theorem d_Mod_byPairs_161 : decode b_Mod_byPairs 161 = .ok (.goto 27, 3) := by decide +kernel
theorem d_Mod_byPairs_164 : decode b_Mod_byPairs 164 = .ok (.iload 5, 2) := by decide +kernel
theorem d_Mod_byPairs_166 : decode b_Mod_byPairs 166 = .ok (.iload 4, 2) := by decide +kernel
theorem d_Mod_byPairs_168 : decode b_Mod_byPairs 168 = .ok (.if_icmp .ne 8, 3) := by decide +kernel
theorem d_Mod_byPairs_171 : decode b_Mod_byPairs 171 = .ok (.iload 9, 2) := by decide +kernel
theorem d_Mod_byPairs_173 : decode b_Mod_byPairs 173 = .ok (.goto 15, 3) := by decide +kernel
theorem d_Mod_byPairs_176 : decode b_Mod_byPairs 176 = .ok (.aload_n 0, 1) := by decide +kernel
theorem d_Mod_byPairs_177 : decode b_Mod_byPairs 177 = .ok (.getfield 50, 3) := by decide +kernel
theorem d_Mod_byPairs_180 : decode b_Mod_byPairs 180 = .ok (.bipush 10, 2) := by decide +kernel
theorem d_Mod_byPairs_182 : decode b_Mod_byPairs 182 = .ok (.iload_n 2, 1) := by decide +kernel
theorem d_Mod_byPairs_183 : decode b_Mod_byPairs 183 = .ok (.imul, 1) := by decide +kernel
theorem d_Mod_byPairs_184 : decode b_Mod_byPairs 184 = .ok (.iload 5, 2) := by decide +kernel
theorem d_Mod_byPairs_186 : decode b_Mod_byPairs 186 = .ok (.iadd, 1) := by decide +kernel
theorem d_Mod_byPairs_187 : decode b_Mod_byPairs 187 = .ok (.iaload, 1) := by decide +kernel
theorem d_Mod_byPairs_188 : decode b_Mod_byPairs 188 = .ok (.istore 12, 2) := by decide +kernel
theorem d_Mod_byPairs_190 : decode b_Mod_byPairs 190 = .ok (.iload 5, 2) := by decide +kernel
theorem d_Mod_byPairs_192 : decode b_Mod_byPairs 192 = .ok (.iload_n 3, 1) := by decide +kernel
theorem d_Mod_byPairs_193 : decode b_Mod_byPairs 193 = .ok (.if_icmp .ne 8, 3) := by decide +kernel
theorem d_Mod_byPairs_196 : decode b_Mod_byPairs 196 = .ok (.iload 6, 2) := by decide +kernel
theorem d_Mod_byPairs_198 : decode b_Mod_byPairs 198 = .ok (.goto 27, 3) := by decide +kernel
theorem d_Mod_byPairs_201 : decode b_Mod_byPairs 201 = .ok (.iload 5, 2) := by decide +kernel
theorem d_Mod_byPairs_203 : decode b_Mod_byPairs 203 = .ok (.iload 4, 2) := by decide +kernel
theorem d_Mod_byPairs_205 : decode b_Mod_byPairs 205 = .ok (.if_icmp .ne 8, 3) := by decide +kernel
theorem d_Mod_byPairs_208 : decode b_Mod_byPairs 208 = .ok (.iload 9, 2) := by decide +kernel
theorem d_Mod_byPairs_210 : decode b_Mod_byPairs 210 = .ok (.goto 15, 3) := by decide +kernel
theorem d_Mod_byPairs_213 : decode b_Mod_byPairs 213 = .ok (.aload_n 0, 1) := by decide +kernel
theorem d_Mod_byPairs_214 : decode b_Mod_byPairs 214 = .ok (.getfield 53, 3) := by decide +kernel
theorem d_Mod_byPairs_217 : decode b_Mod_byPairs 217 = .ok (.bipush 10, 2) := by decide +kernel
theorem d_Mod_byPairs_219 : decode b_Mod_byPairs 219 = .ok (.iload_n 2, 1) := by decide +kernel
theorem d_Mod_byPairs_220 : decode b_Mod_byPairs 220 = .ok (.imul, 1) := by decide +kernel
theorem d_Mod_byPairs_221 : decode b_Mod_byPairs 221 = .ok (.iload 5, 2) := by decide +kernel
theorem d_Mod_byPairs_223 : decode b_Mod_byPairs 223 = .ok (.iadd, 1) := by decide +kernel
theorem d_Mod_byPairs_224 : decode b_Mod_byPairs 224 = .ok (.iaload, 1) := by decide +kernel
theorem d_Mod_byPairs_225 : decode b_Mod_byPairs 225 = .ok (.istore 13, 2) := by decide +kernel
theorem d_Mod_byPairs_227 : decode b_Mod_byPairs 227 = .ok (.aload_n 0, 1) := by decide +kernel
theorem d_Mod_byPairs_228 : decode b_Mod_byPairs 228 = .ok (.iload 6, 2) := by decide +kernel
theorem d_Mod_byPairs_230 : decode b_Mod_byPairs 230 = .ok (.iload 9, 2) := by decide +kernel
theorem d_Mod_byPairs_232 : decode b_Mod_byPairs 232 = .ok (.iload 10, 2) := by decide +kernel
theorem d_Mod_byPairs_234 : decode b_Mod_byPairs 234 = .ok (.iload 12, 2) := by decide +kernel
theorem d_Mod_byPairs_236 : decode b_Mod_byPairs 236 = .ok (.invokestatic 120, 3) := by decide +kernel
theorem d_Mod_byPairs_239 : decode b_Mod_byPairs 239 = .ok (.iload 11, 2) := by decide +kernel
theorem d_Mod_byPairs_241 : decode b_Mod_byPairs 241 = .ok (.iload 13, 2) := by decide +kernel
theorem d_Mod_byPairs_243 : decode b_Mod_byPairs 243 = .ok (.invokestatic 124, 3) := by decide +kernel
theorem d_Mod_byPairs_246 : decode b_Mod_byPairs 246 = .ok (.invokevirtual 156, 3) := by decide +kernel
theorem d_Mod_byPairs_249 : decode b_Mod_byPairs 249 = .ok (.iinc 9 1, 3) := by decide +kernel
theorem d_Mod_byPairs_252 : decode b_Mod_byPairs 252 = .ok (.goto (-142), 3) := by decide +kernel
theorem d_Mod_byPairs_255 : decode b_Mod_byPairs 255 = .ok (.iinc 6 1, 3) := by decide +kernel
theorem d_Mod_byPairs_258 : decode b_Mod_byPairs 258 = .ok (.goto (-218), 3) := by decide +kernel
theorem d_Mod_byPairs_261 : decode b_Mod_byPairs 261 = .ok (.aload_n 0, 1) := by decide +kernel
theorem d_Mod_byPairs_262 : decode b_Mod_byPairs 262 = .ok (.iload_n 2, 1) := by decide +kernel
theorem d_Mod_byPairs_263 : decode b_Mod_byPairs 263 = .ok (.iload_n 3, 1) := by decide +kernel
theorem d_Mod_byPairs_264 : decode b_Mod_byPairs 264 = .ok (.aload_n 0, 1) := by decide +kernel
theorem d_Mod_byPairs_265 : decode b_Mod_byPairs 265 = .ok (.getfield 127, 3) := by decide +kernel
theorem d_Mod_byPairs_268 : decode b_Mod_byPairs 268 = .ok (.aload_n 0, 1) := by decide +kernel
theorem d_Mod_byPairs_269 : decode b_Mod_byPairs 269 = .ok (.getfield 136, 3) := by decide +kernel
theorem d_Mod_byPairs_272 : decode b_Mod_byPairs 272 = .ok (.invokevirtual 160, 3) := by decide +kernel
theorem d_Mod_byPairs_275 : decode b_Mod_byPairs 275 = .ok (.ifCond .eq 43, 3) := by decide +kernel
theorem d_Mod_byPairs_278 : decode b_Mod_byPairs 278 = .ok (.aload_n 0, 1) := by decide +kernel
theorem d_Mod_byPairs_279 : decode b_Mod_byPairs 279 = .ok (.iload_n 2, 1) := by decide +kernel
theorem d_Mod_byPairs_280 : decode b_Mod_byPairs 280 = .ok (.iload 4, 2) := by decide +kernel
theorem d_Mod_byPairs_282 : decode b_Mod_byPairs 282 = .ok (.aload_n 0, 1) := by decide +kernel
theorem d_Mod_byPairs_283 : decode b_Mod_byPairs 283 = .ok (.getfield 130, 3) := by decide +kernel
theorem d_Mod_byPairs_286 : decode b_Mod_byPairs 286 = .ok (.aload_n 0, 1) := by decide +kernel
theorem d_Mod_byPairs_287 : decode b_Mod_byPairs 287 = .ok (.getfield 139, 3) := by decide +kernel
theorem d_Mod_byPairs_290 : decode b_Mod_byPairs 290 = .ok (.invokevirtual 160, 3) := by decide +kernel
theorem d_Mod_byPairs_293 : decode b_Mod_byPairs 293 = .ok (.ifCond .eq 25, 3) := by decide +kernel
theorem d_Mod_byPairs_296 : decode b_Mod_byPairs 296 = .ok (.aload_n 0, 1) := by decide +kernel
theorem d_Mod_byPairs_297 : decode b_Mod_byPairs 297 = .ok (.iload_n 2, 1) := by decide +kernel
theorem d_Mod_byPairs_298 : decode b_Mod_byPairs 298 = .ok (.iload 5, 2) := by decide +kernel
theorem d_Mod_byPairs_300 : decode b_Mod_byPairs 300 = .ok (.aload_n 0, 1) := by decide +kernel
theorem d_Mod_byPairs_301 : decode b_Mod_byPairs 301 = .ok (.getfield 133, 3) := by decide +kernel
theorem d_Mod_byPairs_304 : decode b_Mod_byPairs 304 = .ok (.aload_n 0, 1) := by decide +kernel
theorem d_Mod_byPairs_305 : decode b_Mod_byPairs 305 = .ok (.getfield 142, 3) := by decide +kernel
theorem d_Mod_byPairs_308 : decode b_Mod_byPairs 308 = .ok (.invokevirtual 160, 3) := by decide +kernel
theorem d_Mod_byPairs_311 : decode b_Mod_byPairs 311 = .ok (.ifCond .eq 7, 3) := by decide +kernel
theorem d_Mod_byPairs_314 : decode b_Mod_byPairs 314 = .ok (.iconst 1, 1) := by decide +kernel
theorem d_Mod_byPairs_315 : decode b_Mod_byPairs 315 = .ok (.goto 4, 3) := by decide +kernel
theorem d_Mod_byPairs_318 : decode b_Mod_byPairs 318 = .ok (.iconst 0, 1) := by decide +kernel
theorem d_Mod_byPairs_319 : decode b_Mod_byPairs 319 = .ok (.ireturn, 1) := by decide +kernel
set_option maxHeartbeats 4000000 in
set_option maxRecDepth 20000 in
theorem k_Mod_byPairs (l : Launch) (D : va_G) (cA : Nat → ClassId) (adr : Nat → Nat) (hi : wI mN adr) (I : Nat → Int32) (F : Nat → Nat → Int32) (r d nn kk ca cb cd : Nat) (xr xd : Int32) (ch : Bool) (hxr : xr.toInt = (r : Int)) (hxd : xd.toInt = (d : Int)) (hrr : r < 12) (hd : d < 12) (hn : nn ≤ 10) (ha : ca < nn) (hbb : cb < nn) (hc : cd < nn) (hkk : kk < 7 ∧ kk ≠ 5) (h5 : (F 5 r).toInt = (kk : Int)) (h6 : (F 6 r).toInt = (ca : Int)) (h7 : (F 7 r).toInt = (cb : Int)) (h8 : (F 8 r).toInt = (cd : Int)) (hch : I 20 = bi ch) (hne : Ne nn (bl F d) (bh F d)) (hrg : ∀ k, k < nn → -100 ≤ bl F d k ∧ bh F d k ≤ 100) : Ct l y_Mod_byPairs b_Mod_byPairs 14 (some .boolean) 10 D cA [.ref (adr 0), .int xr, .int xd] (fun H => MP D cA adr I F H) (fun r0 H => ∃ (I2 : Nat → Int32) (F2 : Nat → Nat → Int32) (q c2 : Bool), r0 = some (.int (bi q)) ∧ FrD d I I2 F F2 ∧ I2 20 = bi c2 ∧ NOK nn (Hull kk ca cb cd) (bl F d) (bh F d) q (bl F2 d) (bh F2 d) ch c2 ∧ MP D cA adr I2 F2 H) (wA mN adr) := by
  refine Ct.mk (by decide) (Nat.le_of_ble_eq_true rfl) ?_
  intro p e s m args below meth c Q H locs ls hx hb hr hml hlk hown hin hK hQ hS hP hl
  have hl : lv_has ls 14 [(0, .ref (adr 0)), (1, .int xr), (2, .int xd)] := hl
  have hown : s.vm.findClass "RangeSheetModel" = some m.cls := hown
  refine lv_aload_n hx hb d_Mod_byPairs_0 rfl (lv_at hl 0 rfl) ?_
  refine m_gr hx hb hK hown hP 6 (by decide) t_743 d_Mod_byPairs_1 ?_
  refine lv_iload_n hx hb d_Mod_byPairs_4 rfl (lv_at hl 1 rfl) ?_
  refine m_ld hx hb hK hP 6 (by decide) (r) hxr (by omega) (show r < 12 by omega) d_Mod_byPairs_5 (fun z_1 ez_1 => ?_)
  subst ez_1
  refine lv_istore_n (lv' := [(3, .int (F 6 (r))), (0, .ref (adr 0)), (1, .int xr), (2, .int xd)]) hx hb d_Mod_byPairs_6 rfl hl (by decide) rfl (fun ls hl => ?_)
  refine lv_aload_n hx hb d_Mod_byPairs_7 rfl (lv_at hl 1 rfl) ?_
  refine m_gr hx hb hK hown hP 7 (by decide) t_744 d_Mod_byPairs_8 ?_
  refine lv_iload_n hx hb d_Mod_byPairs_11 rfl (lv_at hl 2 rfl) ?_
  refine m_ld hx hb hK hP 7 (by decide) (r) hxr (by omega) (show r < 12 by omega) d_Mod_byPairs_12 (fun z_2 ez_2 => ?_)
  subst ez_2
  refine lv_istore (lv' := [(4, .int (F 7 (r))), (3, .int (F 6 (r))), (0, .ref (adr 0)), (1, .int xr), (2, .int xd)]) hx hb d_Mod_byPairs_13 hl (by decide) rfl (fun ls hl => ?_)
  refine lv_aload_n hx hb d_Mod_byPairs_15 rfl (lv_at hl 2 rfl) ?_
  refine m_gr hx hb hK hown hP 8 (by decide) t_745 d_Mod_byPairs_16 ?_
  refine lv_iload_n hx hb d_Mod_byPairs_19 rfl (lv_at hl 3 rfl) ?_
  refine m_ld hx hb hK hP 8 (by decide) (r) hxr (by omega) (show r < 12 by omega) d_Mod_byPairs_20 (fun z_3 ez_3 => ?_)
  subst ez_3
  refine lv_istore (lv' := [(5, .int (F 8 (r))), (4, .int (F 7 (r))), (3, .int (F 6 (r))), (0, .ref (adr 0)), (1, .int xr), (2, .int xd)]) hx hb d_Mod_byPairs_21 hl (by decide) rfl (fun ls hl => ?_)
  refine lv_aload_n hx hb d_Mod_byPairs_23 rfl (lv_at hl 3 rfl) ?_
  refine x_V (As := []) (rest := []) hx hb hml hown hK (k_Mod_clearEnds l D cA adr hi I F) t_940 t_4 t_937 t_939 ts_26 yk_Mod_clearEnds ⟨Nat.le_of_ble_eq_true rfl, Nat.le_of_ble_eq_true rfl⟩ (m_rec hK hP) hP rfl hl.1 rfl (Nat.le_of_ble_eq_true rfl) d_Mod_byPairs_24 ⟨Nat.le_of_ble_eq_true rfl, Nat.le_of_ble_eq_true rfl⟩ hS (fun q h => h) (fun r H locs hq _ hS => ?_)
  obtain ⟨I_4, rfl, hI_4, hE_4, hP⟩ := hq
  refine W.eq (g2 := F0 m 27 ls []) rfl ?_
  refine lv_aload_n hx hb d_Mod_byPairs_27 rfl (lv_at hl 3 rfl) ?_
  refine m_gr hx hb hK hown hP 18 (by decide) t_755 d_Mod_byPairs_28 ?_
  refine lv_bipush (v := 10) hx hb d_Mod_byPairs_31 (by decide) ?_
  refine lv_iload_n hx hb d_Mod_byPairs_33 rfl (lv_at hl 5 rfl) ?_
  refine x_mul hx hb d_Mod_byPairs_34 kc_10 hxd (by omega) (fun z_5 tz_5 => ?_)
  refine lv_iload_n hx hb d_Mod_byPairs_35 rfl (lv_at hl 2 rfl) ?_
  refine x_add hx hb d_Mod_byPairs_36 tz_5 h6 (by omega) (fun z_6 tz_6 => ?_)
  refine m_ld hx hb hK hP 18 (by decide) (((10 * d) + ca)) tz_6 (by omega) (show ((10 * d) + ca) < 120 by omega) d_Mod_byPairs_37 (fun z_7 ez_7 => ?_)
  subst ez_7
  refine lv_istore (lv' := [(6, .int (F 18 ((10 * d) + ca))), (5, .int (F 8 (r))), (4, .int (F 7 (r))), (3, .int (F 6 (r))), (0, .ref (adr 0)), (1, .int xr), (2, .int xd)]) hx hb d_Mod_byPairs_38 hl (by decide) rfl (fun ls hl => ?_)
  have L_8 : ∀ (n : Nat) (x6 : Int32) (I1 : Nat → Int32) (H : Heap) (locs : List Loc) (ls : Array Slot), ((F 19 (10 * d + ca)).toInt + 1 - x6.toInt).toNat < n → ((F 18 (10 * d + ca)).toInt ≤ x6.toInt ∧ x6.toInt ≤ (F 19 (10 * d + ca)).toInt + 1 ∧ -100 ≤ x6.toInt ∧ x6.toInt ≤ 101) → (∀ k, (k < 21 ∨ 26 < k) → I1 k = I k) → (EI (fun x y z => Sol kk ca cb cd (bl F d) (bh F d) x y z ∧ x < x6.toInt) I1) → MP D cA adr I1 F H → va_S (wA mN adr) s.heap H locs → lv_has ls 14 [(0, .ref (adr 0)), (1, .int xr), (2, .int xd), (3, .int (F 6 r)), (4, .int (F 7 r)), (5, .int (F 8 r)), (6, .int x6)] → W p l e (rl 10) s m args below meth c H locs 0 0 Q (F0 m 40 ls []) := by
    intro n
    induction n with
    | zero => intro x6 I1 H locs ls hmu; exact absurd hmu (Nat.not_lt_zero _)
    | succ n ih_8 =>
      intro x6 I1 H locs ls hmu hx6 hI1 hE1 hP hS hl
      have hra := hrg ca ha; have hrb := hrg cb hbb; have hrc := hrg cd hc; have hna := hne ca ha; have hnb := hne cb hbb; have hnc := hne cd hc; unfold bl bh at hra hrb hrc hna hnb hnc
      refine lv_iload hx hb d_Mod_byPairs_40 (lv_at hl 6 rfl) ?_
      refine lv_aload_n hx hb d_Mod_byPairs_42 rfl (lv_at hl 0 rfl) ?_
      refine m_gr hx hb hK hown hP 19 (by decide) t_756 d_Mod_byPairs_43 ?_
      refine lv_bipush (v := 10) hx hb d_Mod_byPairs_46 (by decide) ?_
      refine lv_iload_n hx hb d_Mod_byPairs_48 rfl (lv_at hl 2 rfl) ?_
      refine x_mul hx hb d_Mod_byPairs_49 kc_10 hxd (by omega) (fun z_9 tz_9 => ?_)
      refine lv_iload_n hx hb d_Mod_byPairs_50 rfl (lv_at hl 3 rfl) ?_
      refine x_add hx hb d_Mod_byPairs_51 tz_9 h6 (by omega) (fun z_10 tz_10 => ?_)
      refine m_ld hx hb hK hP 19 (by decide) (((10 * d) + ca)) tz_10 (by omega) (show ((10 * d) + ca) < 120 by omega) d_Mod_byPairs_52 (fun z_11 ez_11 => ?_)
      subst ez_11
      refine b_icmp_gt (tgt := 261) hx hb d_Mod_byPairs_53 (by decide) rfl rfl (fun c_12 => ?_) (fun c_12 => ?_)
      · refine lv_aload_n hx hb d_Mod_byPairs_261 rfl (lv_at hl 0 rfl) ?_
        refine lv_iload_n hx hb d_Mod_byPairs_262 rfl (lv_at hl 2 rfl) ?_
        refine lv_iload_n hx hb d_Mod_byPairs_263 rfl (lv_at hl 3 rfl) ?_
        refine lv_aload_n hx hb d_Mod_byPairs_264 rfl (lv_at hl 0 rfl) ?_
        refine m_gi (v := (I1 21)) hx hb hK hown hP 21 (by decide) t_758 rfl d_Mod_byPairs_265 ?_
        refine lv_aload_n hx hb d_Mod_byPairs_268 rfl (lv_at hl 0 rfl) ?_
        refine m_gi (v := (I1 22)) hx hb hK hown hP 22 (by decide) t_759 rfl d_Mod_byPairs_269 ?_
        refine x_V (As := [.int xd, .int (F 6 r), .int (I1 21), .int (I1 22)]) (rest := []) hx hb hml hown hK (k_Mod_cut l D cA adr hi I1 F d ca xd (F 6 r) (I1 21) (I1 22) ch hxd h6 (by omega) (by omega) ((hI1 20 (by omega)).trans hch)) t_910 t_4 t_907 t_909 ts_20 yk_Mod_cut ⟨Nat.le_of_ble_eq_true rfl, Nat.le_of_ble_eq_true rfl⟩ (m_rec hK hP) hP rfl hl.1 rfl (Nat.le_of_ble_eq_true rfl) d_Mod_byPairs_272 ⟨Nat.le_of_ble_eq_true rfl, Nat.le_of_ble_eq_true rfl⟩ hS (fun q h => h) (fun r H locs hq _ hS => ?_)
        obtain ⟨lo_13, hh_13, hlo_13, hhh_13, rfl, hP⟩ := hq
        obtain ⟨ch_13, hch_13⟩ : ∃ q : Bool, q = (ch || decide ((F 18 (10 * d + ca)).toInt < (I1 21).toInt ∨ (I1 22).toInt < (F 19 (10 * d + ca)).toInt)) := ⟨_, rfl⟩
        rw [← hch_13] at hP
        refine W.eq (g2 := F0 m 275 ls [.int (bi (decide (lo_13.toInt ≤ hh_13.toInt)))]) rfl ?_
        refine b_bool_eq (tgt := 318) hx hb d_Mod_byPairs_275 (by decide) (fun c_14 => ?_) (fun c_14 => ?_)
        · refine lv_iconst (v := 0) hx hb d_Mod_byPairs_318 (by decide) ?_
          refine W.eq (g2 := F0 m 319 ls [.int (bi false)]) rfl ?_
          refine e_z hx hb hr hlk hQ hS d_Mod_byPairs_319 ?_
          refine ⟨_, _, false, ch_13, rfl, ?_, rfl, ?_, hP⟩
          · exact ((FrD.ints (fun k hk => hI1 k (by omega))).tr (FrD.cut (by omega)))
          · have hE : Ends (Sol kk ca cb cd (bl F d) (bh F d)) 400 (I1 21).toInt (I1 22).toInt (I1 23).toInt (I1 24).toInt (I1 25).toInt (I1 26).toInt := hE1.congr (fun x y z => ⟨fun h => h.1, fun h => ⟨h, by have h1 := h.1; unfold bl bh at h1; omega⟩⟩)
            have hra := hrg ca ha
            have g0 : ¬ bl (cutF F (10 * d + ca) lo_13 hh_13) d ca ≤ bh (cutF F (10 * d + ca) lo_13 hh_13) d ca := by rw [cutF_l, cutF_h]; exact of_decide_eq_false c_14
            exact hull3 (far := 400) (yl := bl (cutF F (10 * d + ca) lo_13 hh_13) d) (yh := bh (cutF F (10 * d + ca) lo_13 hh_13) d) (wl := bl (cutF F (10 * d + ca) lo_13 hh_13) d) (wh := bh (cutF F (10 * d + ca) lo_13 hh_13) d) (c1 := ch_13) (c2 := ch_13) ha hbb hc hne (by omega) hE (cutF_b hn hlo_13 hhh_13) hch_13 (fun h => absurd h g0) (fun h => absurd h g0) ⟨fun h => absurd h (by decide), fun h => absurd h.1 g0⟩
        · refine lv_aload_n hx hb d_Mod_byPairs_278 rfl (lv_at hl 0 rfl) ?_
          refine lv_iload_n hx hb d_Mod_byPairs_279 rfl (lv_at hl 2 rfl) ?_
          refine lv_iload hx hb d_Mod_byPairs_280 (lv_at hl 4 rfl) ?_
          refine lv_aload_n hx hb d_Mod_byPairs_282 rfl (lv_at hl 0 rfl) ?_
          refine m_gi (v := (I1 23)) hx hb hK hown hP 23 (by decide) t_760 rfl d_Mod_byPairs_283 ?_
          refine lv_aload_n hx hb d_Mod_byPairs_286 rfl (lv_at hl 0 rfl) ?_
          refine m_gi (v := (I1 24)) hx hb hK hown hP 24 (by decide) t_761 rfl d_Mod_byPairs_287 ?_
          refine x_V (As := [.int xd, .int (F 7 r), .int (I1 23), .int (I1 24)]) (rest := []) hx hb hml hown hK (k_Mod_cut l D cA adr hi (va_up I1 20 (bi ch_13)) (cutF F (10 * d + ca) lo_13 hh_13) d cb xd (F 7 r) (I1 23) (I1 24) ch_13 hxd h7 (by omega) (by omega) rfl) t_910 t_4 t_907 t_909 ts_20 yk_Mod_cut ⟨Nat.le_of_ble_eq_true rfl, Nat.le_of_ble_eq_true rfl⟩ (m_rec hK hP) hP rfl hl.1 rfl (Nat.le_of_ble_eq_true rfl) d_Mod_byPairs_290 ⟨Nat.le_of_ble_eq_true rfl, Nat.le_of_ble_eq_true rfl⟩ hS (fun q h => h) (fun r H locs hq _ hS => ?_)
          obtain ⟨lo_15, hh_15, hlo_15, hhh_15, rfl, hP⟩ := hq
          obtain ⟨ch_15, hch_15⟩ : ∃ q : Bool, q = (ch_13 || decide (((cutF F (10 * d + ca) lo_13 hh_13) 18 (10 * d + cb)).toInt < (I1 23).toInt ∨ (I1 24).toInt < ((cutF F (10 * d + ca) lo_13 hh_13) 19 (10 * d + cb)).toInt)) := ⟨_, rfl⟩
          rw [← hch_15] at hP
          refine W.eq (g2 := F0 m 293 ls [.int (bi (decide (lo_15.toInt ≤ hh_15.toInt)))]) rfl ?_
          refine b_bool_eq (tgt := 318) hx hb d_Mod_byPairs_293 (by decide) (fun c_16 => ?_) (fun c_16 => ?_)
          · refine lv_iconst (v := 0) hx hb d_Mod_byPairs_318 (by decide) ?_
            refine W.eq (g2 := F0 m 319 ls [.int (bi false)]) rfl ?_
            refine e_z hx hb hr hlk hQ hS d_Mod_byPairs_319 ?_
            refine ⟨_, _, false, ch_15, rfl, ?_, rfl, ?_, hP⟩
            · exact ((FrD.ints (fun k hk => hI1 k (by omega))).tr ((FrD.cut (by omega)).tr (FrD.cut (by omega))))
            · have hE : Ends (Sol kk ca cb cd (bl F d) (bh F d)) 400 (I1 21).toInt (I1 22).toInt (I1 23).toInt (I1 24).toInt (I1 25).toInt (I1 26).toInt := hE1.congr (fun x y z => ⟨fun h => h.1, fun h => ⟨h, by have h1 := h.1; unfold bl bh at h1; omega⟩⟩)
              have hra := hrg ca ha
              have g0 : bl (cutF F (10 * d + ca) lo_13 hh_13) d ca ≤ bh (cutF F (10 * d + ca) lo_13 hh_13) d ca := by rw [cutF_l, cutF_h]; exact of_decide_eq_true c_14
              have g1 : ¬ bl (cutF (cutF F (10 * d + ca) lo_13 hh_13) (10 * d + cb) lo_15 hh_15) d cb ≤ bh (cutF (cutF F (10 * d + ca) lo_13 hh_13) (10 * d + cb) lo_15 hh_15) d cb := by rw [cutF_l, cutF_h]; exact of_decide_eq_false c_16
              exact hull3 (far := 400) (yl := bl (cutF F (10 * d + ca) lo_13 hh_13) d) (yh := bh (cutF F (10 * d + ca) lo_13 hh_13) d) (wl := bl (cutF (cutF F (10 * d + ca) lo_13 hh_13) (10 * d + cb) lo_15 hh_15) d) (wh := bh (cutF (cutF F (10 * d + ca) lo_13 hh_13) (10 * d + cb) lo_15 hh_15) d) (c1 := ch_13) (c2 := ch_15) ha hbb hc hne (by omega) hE (cutF_b hn hlo_13 hhh_13) hch_13 (fun _ => ⟨cutF_b hn hlo_15 hhh_15, hch_15⟩) (fun _ h => absurd h g1) ⟨fun h => absurd h (by decide), fun h => absurd h.2.1 g1⟩
          · refine lv_aload_n hx hb d_Mod_byPairs_296 rfl (lv_at hl 0 rfl) ?_
            refine lv_iload_n hx hb d_Mod_byPairs_297 rfl (lv_at hl 2 rfl) ?_
            refine lv_iload hx hb d_Mod_byPairs_298 (lv_at hl 5 rfl) ?_
            refine lv_aload_n hx hb d_Mod_byPairs_300 rfl (lv_at hl 0 rfl) ?_
            refine m_gi (v := (I1 25)) hx hb hK hown hP 25 (by decide) t_762 rfl d_Mod_byPairs_301 ?_
            refine lv_aload_n hx hb d_Mod_byPairs_304 rfl (lv_at hl 0 rfl) ?_
            refine m_gi (v := (I1 26)) hx hb hK hown hP 26 (by decide) t_763 rfl d_Mod_byPairs_305 ?_
            refine x_V (As := [.int xd, .int (F 8 r), .int (I1 25), .int (I1 26)]) (rest := []) hx hb hml hown hK (k_Mod_cut l D cA adr hi (va_up (va_up I1 20 (bi ch_13)) 20 (bi ch_15)) (cutF (cutF F (10 * d + ca) lo_13 hh_13) (10 * d + cb) lo_15 hh_15) d cd xd (F 8 r) (I1 25) (I1 26) ch_15 hxd h8 (by omega) (by omega) rfl) t_910 t_4 t_907 t_909 ts_20 yk_Mod_cut ⟨Nat.le_of_ble_eq_true rfl, Nat.le_of_ble_eq_true rfl⟩ (m_rec hK hP) hP rfl hl.1 rfl (Nat.le_of_ble_eq_true rfl) d_Mod_byPairs_308 ⟨Nat.le_of_ble_eq_true rfl, Nat.le_of_ble_eq_true rfl⟩ hS (fun q h => h) (fun r H locs hq _ hS => ?_)
            obtain ⟨lo_17, hh_17, hlo_17, hhh_17, rfl, hP⟩ := hq
            obtain ⟨ch_17, hch_17⟩ : ∃ q : Bool, q = (ch_15 || decide (((cutF (cutF F (10 * d + ca) lo_13 hh_13) (10 * d + cb) lo_15 hh_15) 18 (10 * d + cd)).toInt < (I1 25).toInt ∨ (I1 26).toInt < ((cutF (cutF F (10 * d + ca) lo_13 hh_13) (10 * d + cb) lo_15 hh_15) 19 (10 * d + cd)).toInt)) := ⟨_, rfl⟩
            rw [← hch_17] at hP
            refine W.eq (g2 := F0 m 311 ls [.int (bi (decide (lo_17.toInt ≤ hh_17.toInt)))]) rfl ?_
            refine b_bool_eq (tgt := 318) hx hb d_Mod_byPairs_311 (by decide) (fun c_18 => ?_) (fun c_18 => ?_)
            · refine lv_iconst (v := 0) hx hb d_Mod_byPairs_318 (by decide) ?_
              refine W.eq (g2 := F0 m 319 ls [.int (bi false)]) rfl ?_
              refine e_z hx hb hr hlk hQ hS d_Mod_byPairs_319 ?_
              refine ⟨_, _, false, ch_17, rfl, ?_, rfl, ?_, hP⟩
              · exact ((FrD.ints (fun k hk => hI1 k (by omega))).tr (((FrD.cut (by omega)).tr (FrD.cut (by omega))).tr (FrD.cut (by omega))))
              · have hE : Ends (Sol kk ca cb cd (bl F d) (bh F d)) 400 (I1 21).toInt (I1 22).toInt (I1 23).toInt (I1 24).toInt (I1 25).toInt (I1 26).toInt := hE1.congr (fun x y z => ⟨fun h => h.1, fun h => ⟨h, by have h1 := h.1; unfold bl bh at h1; omega⟩⟩)
                have hra := hrg ca ha
                have g0 : bl (cutF F (10 * d + ca) lo_13 hh_13) d ca ≤ bh (cutF F (10 * d + ca) lo_13 hh_13) d ca := by rw [cutF_l, cutF_h]; exact of_decide_eq_true c_14
                have g1 : bl (cutF (cutF F (10 * d + ca) lo_13 hh_13) (10 * d + cb) lo_15 hh_15) d cb ≤ bh (cutF (cutF F (10 * d + ca) lo_13 hh_13) (10 * d + cb) lo_15 hh_15) d cb := by rw [cutF_l, cutF_h]; exact of_decide_eq_true c_16
                have g2 : ¬ bl (cutF (cutF (cutF F (10 * d + ca) lo_13 hh_13) (10 * d + cb) lo_15 hh_15) (10 * d + cd) lo_17 hh_17) d cd ≤ bh (cutF (cutF (cutF F (10 * d + ca) lo_13 hh_13) (10 * d + cb) lo_15 hh_15) (10 * d + cd) lo_17 hh_17) d cd := by rw [cutF_l, cutF_h]; exact of_decide_eq_false c_18
                exact hull3 (far := 400) (yl := bl (cutF F (10 * d + ca) lo_13 hh_13) d) (yh := bh (cutF F (10 * d + ca) lo_13 hh_13) d) (wl := bl (cutF (cutF F (10 * d + ca) lo_13 hh_13) (10 * d + cb) lo_15 hh_15) d) (wh := bh (cutF (cutF F (10 * d + ca) lo_13 hh_13) (10 * d + cb) lo_15 hh_15) d) (c1 := ch_13) (c2 := ch_15) ha hbb hc hne (by omega) hE (cutF_b hn hlo_13 hhh_13) hch_13 (fun _ => ⟨cutF_b hn hlo_15 hhh_15, hch_15⟩) (fun _ _ => ⟨cutF_b hn hlo_17 hhh_17, hch_17⟩) ⟨fun h => absurd h (by decide), fun h => absurd h.2.2 g2⟩
            · refine lv_iconst (v := 1) hx hb d_Mod_byPairs_314 (by decide) ?_
              refine lv_goto (tgt := 319) hx hb d_Mod_byPairs_315 (by decide) ?_
              refine W.eq (g2 := F0 m 319 ls [.int (bi true)]) rfl ?_
              refine e_z hx hb hr hlk hQ hS d_Mod_byPairs_319 ?_
              refine ⟨_, _, true, ch_17, rfl, ?_, rfl, ?_, hP⟩
              · exact ((FrD.ints (fun k hk => hI1 k (by omega))).tr (((FrD.cut (by omega)).tr (FrD.cut (by omega))).tr (FrD.cut (by omega))))
              · have hE : Ends (Sol kk ca cb cd (bl F d) (bh F d)) 400 (I1 21).toInt (I1 22).toInt (I1 23).toInt (I1 24).toInt (I1 25).toInt (I1 26).toInt := hE1.congr (fun x y z => ⟨fun h => h.1, fun h => ⟨h, by have h1 := h.1; unfold bl bh at h1; omega⟩⟩)
                have hra := hrg ca ha
                have g0 : bl (cutF F (10 * d + ca) lo_13 hh_13) d ca ≤ bh (cutF F (10 * d + ca) lo_13 hh_13) d ca := by rw [cutF_l, cutF_h]; exact of_decide_eq_true c_14
                have g1 : bl (cutF (cutF F (10 * d + ca) lo_13 hh_13) (10 * d + cb) lo_15 hh_15) d cb ≤ bh (cutF (cutF F (10 * d + ca) lo_13 hh_13) (10 * d + cb) lo_15 hh_15) d cb := by rw [cutF_l, cutF_h]; exact of_decide_eq_true c_16
                have g2 : bl (cutF (cutF (cutF F (10 * d + ca) lo_13 hh_13) (10 * d + cb) lo_15 hh_15) (10 * d + cd) lo_17 hh_17) d cd ≤ bh (cutF (cutF (cutF F (10 * d + ca) lo_13 hh_13) (10 * d + cb) lo_15 hh_15) (10 * d + cd) lo_17 hh_17) d cd := by rw [cutF_l, cutF_h]; exact of_decide_eq_true c_18
                exact hull3 (far := 400) (yl := bl (cutF F (10 * d + ca) lo_13 hh_13) d) (yh := bh (cutF F (10 * d + ca) lo_13 hh_13) d) (wl := bl (cutF (cutF F (10 * d + ca) lo_13 hh_13) (10 * d + cb) lo_15 hh_15) d) (wh := bh (cutF (cutF F (10 * d + ca) lo_13 hh_13) (10 * d + cb) lo_15 hh_15) d) (c1 := ch_13) (c2 := ch_15) ha hbb hc hne (by omega) hE (cutF_b hn hlo_13 hhh_13) hch_13 (fun _ => ⟨cutF_b hn hlo_15 hhh_15, hch_15⟩) (fun _ _ => ⟨cutF_b hn hlo_17 hhh_17, hch_17⟩) ⟨fun _ => ⟨g0, g1, g2⟩, fun _ => rfl⟩
      · refine lv_iload hx hb d_Mod_byPairs_56 (lv_at hl 4 rfl) ?_
        refine lv_iload_n hx hb d_Mod_byPairs_58 rfl (lv_at hl 3 rfl) ?_
        have K_219 : ∀ (z_219_0 : Int32), z_219_0.toInt = (if ¬ (cb : Int) = (ca : Int) then (F 18 ((10 * d) + cb)).toInt else x6.toInt) → W p l e (rl 10) s m args below meth c H locs 0 0 Q (F0 m 79 ls [.int z_219_0]) := by
          intro z_219_0 hz_219_0
          refine lv_istore (lv' := [(7, .int z_219_0), (0, .ref (adr 0)), (1, .int xr), (2, .int xd), (3, .int (F 6 r)), (4, .int (F 7 r)), (5, .int (F 8 r)), (6, .int x6)]) hx hb d_Mod_byPairs_79 hl (by decide) rfl (fun ls hl => ?_)
          refine lv_iload hx hb d_Mod_byPairs_81 (lv_at hl 5 rfl) ?_
          refine lv_iload_n hx hb d_Mod_byPairs_83 rfl (lv_at hl 4 rfl) ?_
          have K_420 : ∀ (z_420_0 : Int32), z_420_0.toInt = (if ¬ (cb : Int) = (ca : Int) then (F 19 ((10 * d) + cb)).toInt else x6.toInt) → W p l e (rl 10) s m args below meth c H locs 0 0 Q (F0 m 104 ls [.int z_420_0]) := by
            intro z_420_0 hz_420_0
            refine lv_istore (lv' := [(8, .int z_420_0), (7, .int z_219_0), (0, .ref (adr 0)), (1, .int xr), (2, .int xd), (3, .int (F 6 r)), (4, .int (F 7 r)), (5, .int (F 8 r)), (6, .int x6)]) hx hb d_Mod_byPairs_104 hl (by decide) rfl (fun ls hl => ?_)
            refine lv_iload hx hb d_Mod_byPairs_106 (lv_at hl 1 rfl) ?_
            refine lv_istore (lv' := [(9, .int z_219_0), (8, .int z_420_0), (7, .int z_219_0), (0, .ref (adr 0)), (1, .int xr), (2, .int xd), (3, .int (F 6 r)), (4, .int (F 7 r)), (5, .int (F 8 r)), (6, .int x6)]) hx hb d_Mod_byPairs_108 hl (by decide) rfl (fun ls hl => ?_)
            have L_421 : ∀ (n : Nat) (x9 : Int32) (I2 : Nat → Int32) (H : Heap) (locs : List Loc) (ls : Array Slot), (z_420_0.toInt + 1 - x9.toInt).toNat < n → (z_219_0.toInt ≤ x9.toInt ∧ x9.toInt ≤ z_420_0.toInt + 1 ∧ -100 ≤ x9.toInt ∧ x9.toInt ≤ 101) → (∀ k, (k < 21 ∨ 26 < k) → I2 k = I k) → (EI (fun x y z => Sol kk ca cb cd (bl F d) (bh F d) x y z ∧ (x < x6.toInt ∨ (x = x6.toInt ∧ y < x9.toInt))) I2) → MP D cA adr I2 F H → va_S (wA mN adr) s.heap H locs → lv_has ls 14 [(0, .ref (adr 0)), (1, .int xr), (2, .int xd), (3, .int (F 6 r)), (4, .int (F 7 r)), (5, .int (F 8 r)), (6, .int x6), (7, .int z_219_0), (8, .int z_420_0), (9, .int x9)] → W p l e (rl 10) s m args below meth c H locs 0 0 Q (F0 m 110 ls []) := by
              intro n
              induction n with
              | zero => intro x9 I2 H locs ls hmu; exact absurd hmu (Nat.not_lt_zero _)
              | succ n ih_421 =>
                intro x9 I2 H locs ls hmu hx9 hI2 hE2 hP hS hl
                refine lv_iload hx hb d_Mod_byPairs_110 (lv_at hl 9 rfl) ?_
                refine lv_iload hx hb d_Mod_byPairs_112 (lv_at hl 8 rfl) ?_
                refine b_icmp_gt (tgt := 255) hx hb d_Mod_byPairs_114 (by decide) rfl rfl (fun c_422 => ?_) (fun c_422 => ?_)
                · refine x_iinc (k := 6) (lv' := fun v_ => [(6, .int v_), (0, .ref (adr 0)), (1, .int xr), (2, .int xd), (3, .int (F 6 r)), (4, .int (F 7 r)), (5, .int (F 8 r)), (7, .int z_219_0), (8, .int z_420_0), (9, .int x9)]) hx hb d_Mod_byPairs_255 hl rfl rfl (by decide) (by omega) (by decide) (fun v_ => rfl) (fun z_423 tz_423 ls hl => ?_)
                  refine lv_goto (tgt := 40) hx hb d_Mod_byPairs_258 (by decide) ?_
                  have hE9 := hE2.congr (fun x y z => bp_out (kk := kk) (cd := cd) (x := x) (y := y) (z := z) hz_420_0 c_422 (by unfold bl bh; omega))
                  rw [← tz_423] at hE9
                  exact ih_8 z_423 I2 _ _ _ (by omega) (by omega) (fun k hk => hI2 k hk) hE9 hP hS (lv_sub hl [1, 2, 3, 4, 5, 6, 0] rfl)
                · refine lv_aload_n hx hb d_Mod_byPairs_117 rfl (lv_at hl 0 rfl) ?_
                  refine m_gr hx hb hK hown hP 5 (by decide) t_742 d_Mod_byPairs_118 ?_
                  refine lv_iload_n hx hb d_Mod_byPairs_121 rfl (lv_at hl 1 rfl) ?_
                  refine m_ld hx hb hK hP 5 (by decide) (r) hxr (by omega) (show r < 12 by omega) d_Mod_byPairs_122 (fun z_424 ez_424 => ?_)
                  subst ez_424
                  refine lv_iload hx hb d_Mod_byPairs_123 (lv_at hl 6 rfl) ?_
                  refine lv_iload hx hb d_Mod_byPairs_125 (lv_at hl 9 rfl) ?_
                  refine r_Mod_thirdOf hx hb hml hown hK hl.1 hS ⟨Nat.le_of_ble_eq_true rfl, Nat.le_of_ble_eq_true rfl⟩ ⟨Nat.le_of_ble_eq_true rfl, Nat.le_of_ble_eq_true rfl⟩ h5 rfl rfl (by omega) (by omega) d_Mod_byPairs_127 (Nat.le_of_ble_eq_true rfl) (fun z_425 locs tz_425 hS => ?_)
                  refine lv_istore (lv' := [(10, .int z_425), (0, .ref (adr 0)), (1, .int xr), (2, .int xd), (3, .int (F 6 r)), (4, .int (F 7 r)), (5, .int (F 8 r)), (6, .int x6), (7, .int z_219_0), (8, .int z_420_0), (9, .int x9)]) hx hb d_Mod_byPairs_130 hl (by decide) rfl (fun ls hl => ?_)
                  refine lv_aload_n hx hb d_Mod_byPairs_132 rfl (lv_at hl 1 rfl) ?_
                  refine m_gr hx hb hK hown hP 5 (by decide) t_742 d_Mod_byPairs_133 ?_
                  refine lv_iload_n hx hb d_Mod_byPairs_136 rfl (lv_at hl 2 rfl) ?_
                  refine m_ld hx hb hK hP 5 (by decide) (r) hxr (by omega) (show r < 12 by omega) d_Mod_byPairs_137 (fun z_426 ez_426 => ?_)
                  subst ez_426
                  refine lv_bipush (v := 6) hx hb d_Mod_byPairs_138 (by decide) ?_
                  have K_627 : ∀ (z_627_0 : Int32), z_627_0.toInt = (if ¬ (kk : Int) = 6 then (thirdI (kk : Int) x6.toInt x9.toInt) else 400) → W p l e (rl 10) s m args below meth c H locs 0 0 Q (F0 m 151 ls [.int z_627_0]) := by
                    intro z_627_0 hz_627_0
                    refine lv_istore (lv' := [(11, .int z_627_0), (10, .int z_425), (0, .ref (adr 0)), (1, .int xr), (2, .int xd), (3, .int (F 6 r)), (4, .int (F 7 r)), (5, .int (F 8 r)), (6, .int x6), (7, .int z_219_0), (8, .int z_420_0), (9, .int x9)]) hx hb d_Mod_byPairs_151 hl (by decide) rfl (fun ls hl => ?_)
                    refine lv_iload hx hb d_Mod_byPairs_153 (lv_at hl 7 rfl) ?_
                    refine lv_iload_n hx hb d_Mod_byPairs_155 rfl (lv_at hl 5 rfl) ?_
                    have K_828 : ∀ (z_828_0 : Int32), z_828_0.toInt = (if ¬ (cd : Int) = (ca : Int) then (if ¬ (cd : Int) = (cb : Int) then (F 18 ((10 * d) + cd)).toInt else x9.toInt) else x6.toInt) → W p l e (rl 10) s m args below meth c H locs 0 0 Q (F0 m 188 ls [.int z_828_0]) := by
                      intro z_828_0 hz_828_0
                      refine lv_istore (lv' := [(12, .int z_828_0), (11, .int z_627_0), (10, .int z_425), (0, .ref (adr 0)), (1, .int xr), (2, .int xd), (3, .int (F 6 r)), (4, .int (F 7 r)), (5, .int (F 8 r)), (6, .int x6), (7, .int z_219_0), (8, .int z_420_0), (9, .int x9)]) hx hb d_Mod_byPairs_188 hl (by decide) rfl (fun ls hl => ?_)
                      refine lv_iload hx hb d_Mod_byPairs_190 (lv_at hl 8 rfl) ?_
                      refine lv_iload_n hx hb d_Mod_byPairs_192 rfl (lv_at hl 6 rfl) ?_
                      have K_1029 : ∀ (z_1029_0 : Int32), z_1029_0.toInt = (if ¬ (cd : Int) = (ca : Int) then (if ¬ (cd : Int) = (cb : Int) then (F 19 ((10 * d) + cd)).toInt else x9.toInt) else x6.toInt) → W p l e (rl 10) s m args below meth c H locs 0 0 Q (F0 m 225 ls [.int z_1029_0]) := by
                        intro z_1029_0 hz_1029_0
                        refine lv_istore (lv' := [(13, .int z_1029_0), (12, .int z_828_0), (11, .int z_627_0), (10, .int z_425), (0, .ref (adr 0)), (1, .int xr), (2, .int xd), (3, .int (F 6 r)), (4, .int (F 7 r)), (5, .int (F 8 r)), (6, .int x6), (7, .int z_219_0), (8, .int z_420_0), (9, .int x9)]) hx hb d_Mod_byPairs_225 hl (by decide) rfl (fun ls hl => ?_)
                        refine lv_aload_n hx hb d_Mod_byPairs_227 rfl (lv_at hl 4 rfl) ?_
                        refine lv_iload hx hb d_Mod_byPairs_228 (lv_at hl 10 rfl) ?_
                        refine lv_iload hx hb d_Mod_byPairs_230 (lv_at hl 13 rfl) ?_
                        refine lv_iload hx hb d_Mod_byPairs_232 (lv_at hl 3 rfl) ?_
                        refine lv_iload hx hb d_Mod_byPairs_234 (lv_at hl 1 rfl) ?_
                        refine r_Mod_greater hx hb hml hown hK hl.1 hS ⟨Nat.le_of_ble_eq_true rfl, Nat.le_of_ble_eq_true rfl⟩ ⟨Nat.le_of_ble_eq_true rfl, Nat.le_of_ble_eq_true rfl⟩ tz_425 rfl  d_Mod_byPairs_236 (Nat.le_of_ble_eq_true rfl) (fun z_1030 locs tz_1030 hS => ?_)
                        refine lv_iload hx hb d_Mod_byPairs_239 (lv_at hl 2 rfl) ?_
                        refine lv_iload hx hb d_Mod_byPairs_241 (lv_at hl 0 rfl) ?_
                        refine r_Mod_lesser hx hb hml hown hK hl.1 hS ⟨Nat.le_of_ble_eq_true rfl, Nat.le_of_ble_eq_true rfl⟩ ⟨Nat.le_of_ble_eq_true rfl, Nat.le_of_ble_eq_true rfl⟩ rfl rfl  d_Mod_byPairs_243 (Nat.le_of_ble_eq_true rfl) (fun z_1031 locs tz_1031 hS => ?_)
                        refine x_V (As := [.int x6, .int x9, .int z_1030, .int z_1031]) (rest := []) hx hb hml hown hK (k_Mod_note l D cA adr hi I2 F x6 x9 z_1030 z_1031) t_944 t_4 t_941 t_943 ts_27 yk_Mod_note ⟨Nat.le_of_ble_eq_true rfl, Nat.le_of_ble_eq_true rfl⟩ (m_rec hK hP) hP rfl hl.1 rfl (Nat.le_of_ble_eq_true rfl) d_Mod_byPairs_246 ⟨Nat.le_of_ble_eq_true rfl, Nat.le_of_ble_eq_true rfl⟩ hS (fun q h => h) (fun r H locs hq _ hS => ?_)
                        obtain ⟨I_1032, rfl, hN_1032, hP⟩ := hq
                        have hy9 := bp_y (xl := bl F d) (xh := bh F d) hz_219_0 hz_420_0 (by unfold bl bh; omega) (by omega : _ ∧ x9.toInt ≤ _)
                        have hfz : -100 ≤ z_828_0.toInt ∧ z_1029_0.toInt ≤ 100 := by
                          constructor
                          · rw [hz_828_0]; repeat' split
                            all_goals omega
                          · rw [hz_1029_0]; repeat' split
                            all_goals omega
                        have hZ := fun z => bp_z (k := kk) (a := ca) (b := cb) (c := cd) (xl := bl F d) (xh := bh F d) (x := x6.toInt) (y := x9.toInt) (fz := z_828_0.toInt) (tz := z_1029_0.toInt) hkk.1 (by unfold bl bh; omega) hy9.1 hy9.2 hz_828_0 hz_1029_0 hfz hkk.2 z
                        have h3r := thirdI_rg kk x6.toInt x9.toInt (by omega) (by omega)
                        have e1 : z_1030.toInt = max (thirdI kk x6.toInt x9.toInt) z_828_0.toInt := tz_1030
                        have e2 : z_1031.toInt = min (if ¬ (kk : Int) = 6 then thirdI kk x6.toInt x9.toInt else 400) z_1029_0.toInt := by rw [tz_1031, hz_627_0]
                        have hZ2 : ∀ z, Sol kk ca cb cd (bl F d) (bh F d) x6.toInt x9.toInt z ↔ z_1030.toInt ≤ z ∧ z ≤ z_1031.toInt := fun z => by rw [e1, e2]; exact hZ z
                        have hE3 := bp_step hE2 hN_1032 hZ2 (by omega)
                        refine W.eq (g2 := F0 m 249 ls []) rfl ?_
                        refine x_iinc (k := 13) (lv' := fun v_ => [(9, .int v_), (13, .int z_1029_0), (12, .int z_828_0), (11, .int z_627_0), (10, .int z_425), (0, .ref (adr 0)), (1, .int xr), (2, .int xd), (3, .int (F 6 r)), (4, .int (F 7 r)), (5, .int (F 8 r)), (6, .int x6), (7, .int z_219_0), (8, .int z_420_0)]) hx hb d_Mod_byPairs_249 hl rfl rfl (by decide) (by omega) (by decide) (fun v_ => rfl) (fun z_1033 tz_1033 ls hl => ?_)
                        refine lv_goto (tgt := 110) hx hb d_Mod_byPairs_252 (by decide) ?_
                        rw [← tz_1033] at hE3
                        exact ih_421 z_1033 I_1032 _ _ _ (by omega) (by omega) (fun k hk => (hN_1032.1 k hk).trans (hI2 k hk)) hE3 hP hS (lv_sub hl [5, 6, 7, 8, 9, 10, 11, 12, 13, 0] rfl)
                      refine b_icmp_ne (tgt := 201) hx hb d_Mod_byPairs_193 (by decide) h8 h6 (fun c_1034 => ?_) (fun c_1034 => ?_)
                      · refine lv_iload hx hb d_Mod_byPairs_201 (lv_at hl 8 rfl) ?_
                        refine lv_iload hx hb d_Mod_byPairs_203 (lv_at hl 7 rfl) ?_
                        refine b_icmp_ne (tgt := 213) hx hb d_Mod_byPairs_205 (by decide) h8 h7 (fun c_1035 => ?_) (fun c_1035 => ?_)
                        · refine lv_aload_n hx hb d_Mod_byPairs_213 rfl (lv_at hl 3 rfl) ?_
                          refine m_gr hx hb hK hown hP 19 (by decide) t_756 d_Mod_byPairs_214 ?_
                          refine lv_bipush (v := 10) hx hb d_Mod_byPairs_217 (by decide) ?_
                          refine lv_iload_n hx hb d_Mod_byPairs_219 rfl (lv_at hl 5 rfl) ?_
                          refine x_mul hx hb d_Mod_byPairs_220 kc_10 hxd (by omega) (fun z_1036 tz_1036 => ?_)
                          refine lv_iload hx hb d_Mod_byPairs_221 (lv_at hl 8 rfl) ?_
                          refine x_add hx hb d_Mod_byPairs_223 tz_1036 h8 (by omega) (fun z_1037 tz_1037 => ?_)
                          refine m_ld hx hb hK hP 19 (by decide) (((10 * d) + cd)) tz_1037 (by omega) (show ((10 * d) + cd) < 120 by omega) d_Mod_byPairs_224 (fun z_1038 ez_1038 => ?_)
                          subst ez_1038
                          exact K_1029 (F 19 ((10 * d) + cd)) (by omega)
                        · refine lv_iload hx hb d_Mod_byPairs_208 (lv_at hl 12 rfl) ?_
                          refine lv_goto (tgt := 225) hx hb d_Mod_byPairs_210 (by decide) ?_
                          exact K_1029 x9 (by omega)
                      · refine lv_iload hx hb d_Mod_byPairs_196 (lv_at hl 9 rfl) ?_
                        refine lv_goto (tgt := 225) hx hb d_Mod_byPairs_198 (by decide) ?_
                        exact K_1029 x6 (by omega)
                    refine b_icmp_ne (tgt := 164) hx hb d_Mod_byPairs_156 (by decide) h8 h6 (fun c_1039 => ?_) (fun c_1039 => ?_)
                    · refine lv_iload hx hb d_Mod_byPairs_164 (lv_at hl 7 rfl) ?_
                      refine lv_iload hx hb d_Mod_byPairs_166 (lv_at hl 6 rfl) ?_
                      refine b_icmp_ne (tgt := 176) hx hb d_Mod_byPairs_168 (by decide) h8 h7 (fun c_1040 => ?_) (fun c_1040 => ?_)
                      · refine lv_aload_n hx hb d_Mod_byPairs_176 rfl (lv_at hl 2 rfl) ?_
                        refine m_gr hx hb hK hown hP 18 (by decide) t_755 d_Mod_byPairs_177 ?_
                        refine lv_bipush (v := 10) hx hb d_Mod_byPairs_180 (by decide) ?_
                        refine lv_iload_n hx hb d_Mod_byPairs_182 rfl (lv_at hl 4 rfl) ?_
                        refine x_mul hx hb d_Mod_byPairs_183 kc_10 hxd (by omega) (fun z_1041 tz_1041 => ?_)
                        refine lv_iload hx hb d_Mod_byPairs_184 (lv_at hl 7 rfl) ?_
                        refine x_add hx hb d_Mod_byPairs_186 tz_1041 h8 (by omega) (fun z_1042 tz_1042 => ?_)
                        refine m_ld hx hb hK hP 18 (by decide) (((10 * d) + cd)) tz_1042 (by omega) (show ((10 * d) + cd) < 120 by omega) d_Mod_byPairs_187 (fun z_1043 ez_1043 => ?_)
                        subst ez_1043
                        exact K_828 (F 18 ((10 * d) + cd)) (by omega)
                      · refine lv_iload hx hb d_Mod_byPairs_171 (lv_at hl 11 rfl) ?_
                        refine lv_goto (tgt := 188) hx hb d_Mod_byPairs_173 (by decide) ?_
                        exact K_828 x9 (by omega)
                    · refine lv_iload hx hb d_Mod_byPairs_159 (lv_at hl 8 rfl) ?_
                      refine lv_goto (tgt := 188) hx hb d_Mod_byPairs_161 (by decide) ?_
                      exact K_828 x6 (by omega)
                  refine b_icmp_ne (tgt := 149) hx hb d_Mod_byPairs_140 (by decide) h5 kc_6 (fun c_1044 => ?_) (fun c_1044 => ?_)
                  · refine lv_iload hx hb d_Mod_byPairs_149 (lv_at hl 0 rfl) ?_
                    exact K_627 z_425 (by omega)
                  · refine lv_sipush (v := 400) hx hb d_Mod_byPairs_143 (by decide) ?_
                    refine lv_goto (tgt := 151) hx hb d_Mod_byPairs_146 (by decide) ?_
                    exact K_627 (400 : Int32) (by have := kc_400; omega)
            have hrg7 := bp_rg (xl := bl F d) (xh := bh F d) (x6 := x6.toInt) hz_219_0 hz_420_0 (by omega) (by unfold bl bh; omega)
            exact L_421 (_ + 1) z_219_0 I1 _ _ _ (Nat.lt_succ_self _) (by omega) hI1 (hE1.congr (fun x y z => bp_in hz_219_0)) hP hS (lv_sub hl [3, 4, 5, 6, 7, 8, 9, 2, 1, 0] rfl)
          refine b_icmp_ne (tgt := 92) hx hb d_Mod_byPairs_84 (by decide) h7 h6 (fun c_1045 => ?_) (fun c_1045 => ?_)
          · refine lv_aload_n hx hb d_Mod_byPairs_92 rfl (lv_at hl 1 rfl) ?_
            refine m_gr hx hb hK hown hP 19 (by decide) t_756 d_Mod_byPairs_93 ?_
            refine lv_bipush (v := 10) hx hb d_Mod_byPairs_96 (by decide) ?_
            refine lv_iload_n hx hb d_Mod_byPairs_98 rfl (lv_at hl 3 rfl) ?_
            refine x_mul hx hb d_Mod_byPairs_99 kc_10 hxd (by omega) (fun z_1046 tz_1046 => ?_)
            refine lv_iload hx hb d_Mod_byPairs_100 (lv_at hl 5 rfl) ?_
            refine x_add hx hb d_Mod_byPairs_102 tz_1046 h7 (by omega) (fun z_1047 tz_1047 => ?_)
            refine m_ld hx hb hK hP 19 (by decide) (((10 * d) + cb)) tz_1047 (by omega) (show ((10 * d) + cb) < 120 by omega) d_Mod_byPairs_103 (fun z_1048 ez_1048 => ?_)
            subst ez_1048
            exact K_420 (F 19 ((10 * d) + cb)) (by omega)
          · refine lv_iload hx hb d_Mod_byPairs_87 (lv_at hl 7 rfl) ?_
            refine lv_goto (tgt := 104) hx hb d_Mod_byPairs_89 (by decide) ?_
            exact K_420 x6 (by omega)
        refine b_icmp_ne (tgt := 67) hx hb d_Mod_byPairs_59 (by decide) h7 h6 (fun c_1049 => ?_) (fun c_1049 => ?_)
        · refine lv_aload_n hx hb d_Mod_byPairs_67 rfl (lv_at hl 0 rfl) ?_
          refine m_gr hx hb hK hown hP 18 (by decide) t_755 d_Mod_byPairs_68 ?_
          refine lv_bipush (v := 10) hx hb d_Mod_byPairs_71 (by decide) ?_
          refine lv_iload_n hx hb d_Mod_byPairs_73 rfl (lv_at hl 2 rfl) ?_
          refine x_mul hx hb d_Mod_byPairs_74 kc_10 hxd (by omega) (fun z_1050 tz_1050 => ?_)
          refine lv_iload hx hb d_Mod_byPairs_75 (lv_at hl 4 rfl) ?_
          refine x_add hx hb d_Mod_byPairs_77 tz_1050 h7 (by omega) (fun z_1051 tz_1051 => ?_)
          refine m_ld hx hb hK hP 18 (by decide) (((10 * d) + cb)) tz_1051 (by omega) (show ((10 * d) + cb) < 120 by omega) d_Mod_byPairs_78 (fun z_1052 ez_1052 => ?_)
          subst ez_1052
          exact K_219 (F 18 ((10 * d) + cb)) (by omega)
        · refine lv_iload hx hb d_Mod_byPairs_62 (lv_at hl 6 rfl) ?_
          refine lv_goto (tgt := 79) hx hb d_Mod_byPairs_64 (by decide) ?_
          exact K_219 x6 (by omega)
  have hra := hrg ca ha; have hna := hne ca ha; unfold bl bh at hra hna
  exact L_8 (_ + 1) (F 18 ((10 * d) + ca)) I_4 _ _ _ (Nat.lt_succ_self _) (by omega) (fun k hk => hI_4 k hk) (hE_4 _ (fun x y z h => by have h1 := h.1.1; have h2 := h.2; unfold bl at h1; omega)) hP hS (lv_sub hl [4, 5, 6, 3, 2, 1, 0] rfl)
