theorem va_up_eta {α : Type} (f : Nat → α) (k : Nat) : va_up f k (f k) = f := by
  funext j
  by_cases h : j = k
  · subst h; simp [va_up]
  · simp [va_up, h]
theorem hasN_nat (m j : Nat) : hasN (m : Int) (j : Int) = m.testBit j := by simp [hasN]
def Best (U : Nat → Bool) (lo hi : Nat → Int) (t x : Int) (j : Nat) : Prop := (x = -1 ∧ ∀ i, i < j → U i = true → t < lo i) ∨ (∃ b : Nat, b < j ∧ x = (b : Int) ∧ U b = true ∧ lo b ≤ t ∧ ∀ i, i < j → U i = true → lo i ≤ t → hi b ≤ hi i)
def Nxt (U : Nat → Bool) (lo : Nat → Int) (x : Int) (j : Nat) : Prop := (∀ i, i < j → U i = true → x ≤ lo i) ∧ ((x = 400 ∧ ∀ i, i < j → U i = false) ∨ ∃ i, i < j ∧ U i = true ∧ x = lo i)
theorem Best.step {U : Nat → Bool} {lo hi : Nat → Int} {t x y g : Int} {j : Nat} (h : Best U lo hi t x j) (e : y = if (!U j) = true then x else (if t < lo j then x else (if x < 0 then (j : Int) else (if g ≤ hi j then x else (j : Int))))) (hg : 0 ≤ x → g = hi x.toNat) : Best U lo hi t y (j + 1) := by
  by_cases hu : U j = true
  · rw [if_neg (by simp [hu])] at e
    by_cases hl : t < lo j
    · rw [if_pos hl] at e
      subst e
      rcases h with ⟨h1, h2⟩ | ⟨b, h1, h2, h3, h4, h5⟩
      · exact Or.inl ⟨h1, fun i hi2 hu2 => by rcases (by omega : i < j ∨ i = j) with q | q; exact h2 i q hu2; rw [q]; exact hl⟩
      · exact Or.inr ⟨b, by omega, h2, h3, h4, fun i hi2 hu2 hl2 => by rcases (by omega : i < j ∨ i = j) with q | q; exact h5 i q hu2 hl2; rw [q] at hl2; omega⟩
    · rw [if_neg hl] at e
      rcases h with ⟨h1, h2⟩ | ⟨b, h1, h2, h3, h4, h5⟩
      · rw [if_pos (by omega)] at e
        exact Or.inr ⟨j, by omega, e, hu, by omega, fun i hi2 hu2 hl2 => by rcases (by omega : i < j ∨ i = j) with q | q; have := h2 i q hu2; omega; rw [q]; omega⟩
      · rw [if_neg (by omega)] at e
        have hg2 := hg (by omega)
        rw [h2, Int.toNat_natCast] at hg2
        by_cases hc : g ≤ hi j
        · rw [if_pos hc] at e
          exact Or.inr ⟨b, by omega, by omega, h3, h4, fun i hi2 hu2 hl2 => by rcases (by omega : i < j ∨ i = j) with q | q; exact h5 i q hu2 hl2; rw [q]; omega⟩
        · rw [if_neg hc] at e
          exact Or.inr ⟨j, by omega, e, hu, by omega, fun i hi2 hu2 hl2 => by rcases (by omega : i < j ∨ i = j) with q | q; have := h5 i q hu2 hl2; omega; rw [q]; omega⟩
  · rw [if_pos (by simpa using hu)] at e
    subst e
    rcases h with ⟨h1, h2⟩ | ⟨b, h1, h2, h3, h4, h5⟩
    · exact Or.inl ⟨h1, fun i hi2 hu2 => by rcases (by omega : i < j ∨ i = j) with q | q; exact h2 i q hu2; rw [q] at hu2; exact absurd hu2 hu⟩
    · exact Or.inr ⟨b, by omega, h2, h3, h4, fun i hi2 hu2 hl2 => by rcases (by omega : i < j ∨ i = j) with q | q; exact h5 i q hu2 hl2; rw [q] at hu2; exact absurd hu2 hu⟩
theorem Nxt.step {U : Nat → Bool} {lo : Nat → Int} {x y : Int} {j : Nat} (h : Nxt U lo x j) (e : y = if (!U j) = true then x else min x (lo j)) (hl : U j = true → lo j ≤ 400) : Nxt U lo y (j + 1) := by
  obtain ⟨h1, h2⟩ := h
  by_cases hu : U j = true
  · rw [if_neg (by simp [hu])] at e
    refine ⟨fun i hi2 hu2 => ?_, ?_⟩
    · rcases (by omega : i < j ∨ i = j) with q | q
      · have := h1 i q hu2; omega
      · rw [q]; omega
    · have := hl hu
      rcases h2 with ⟨q1, q2⟩ | ⟨i, q1, q2, q3⟩
      · exact Or.inr ⟨j, by omega, hu, by omega⟩
      · by_cases c : x ≤ lo j
        · exact Or.inr ⟨i, by omega, q2, by omega⟩
        · exact Or.inr ⟨j, by omega, hu, by omega⟩
  · rw [if_pos (by simpa using hu)] at e
    subst e
    refine ⟨fun i hi2 hu2 => ?_, ?_⟩
    · rcases (by omega : i < j ∨ i = j) with q | q
      · exact h1 i q hu2
      · rw [q] at hu2; exact absurd hu2 hu
    · rcases h2 with ⟨q1, q2⟩ | ⟨i, q1, q2, q3⟩
      · exact Or.inl ⟨q1, fun i hi2 => by rcases (by omega : i < j ∨ i = j) with q | q; exact q2 i q; rw [q]; simpa using hu⟩
      · exact Or.inr ⟨i, by omega, q2, q3⟩
theorem Best.rg {U : Nat → Bool} {lo hi : Nat → Int} {t x : Int} {j : Nat} (h : Best U lo hi t x j) (hj : j ≤ 10) : -1 ≤ x ∧ x ≤ 9 := by
  rcases h with ⟨h1, h2⟩ | ⟨b, h1, h2, h3⟩ <;> omega
theorem d_Mod_seats_0 : decode b_Mod_seats 0 = .ok (.iconst 0, 1) := by decide +kernel
theorem d_Mod_seats_1 : decode b_Mod_seats 1 = .ok (.istore 5, 2) := by decide +kernel
theorem d_Mod_seats_3 : decode b_Mod_seats 3 = .ok (.iconst 0, 1) := by decide +kernel
theorem d_Mod_seats_4 : decode b_Mod_seats 4 = .ok (.istore 6, 2) := by decide +kernel
theorem d_Mod_seats_6 : decode b_Mod_seats 6 = .ok (.iload 6, 2) := by decide +kernel
theorem d_Mod_seats_8 : decode b_Mod_seats 8 = .ok (.bipush 10, 2) := by decide +kernel
theorem d_Mod_seats_10 : decode b_Mod_seats 10 = .ok (.if_icmp .ge 57, 3) := by decide +kernel
theorem d_Mod_seats_13 : decode b_Mod_seats 13 = .ok (.aload_n 0, 1) := by decide +kernel
theorem d_Mod_seats_14 : decode b_Mod_seats 14 = .ok (.getfield 56, 3) := by decide +kernel
theorem d_Mod_seats_17 : decode b_Mod_seats 17 = .ok (.iload 6, 2) := by decide +kernel
theorem d_Mod_seats_19 : decode b_Mod_seats 19 = .ok (.iload_n 2, 1) := by decide +kernel
theorem d_Mod_seats_20 : decode b_Mod_seats 20 = .ok (.iload 6, 2) := by decide +kernel
theorem d_Mod_seats_22 : decode b_Mod_seats 22 = .ok (.invokestatic 113, 3) := by decide +kernel
theorem d_Mod_seats_25 : decode b_Mod_seats 25 = .ok (.ifCond .eq 9, 3) := by decide +kernel
theorem d_Mod_seats_28 : decode b_Mod_seats 28 = .ok (.iload 6, 2) := by decide +kernel
theorem d_Mod_seats_30 : decode b_Mod_seats 30 = .ok (.iload_n 3, 1) := by decide +kernel
theorem d_Mod_seats_31 : decode b_Mod_seats 31 = .ok (.if_icmp .ne 7, 3) := by decide +kernel
theorem d_Mod_seats_34 : decode b_Mod_seats 34 = .ok (.iconst 1, 1) := by decide +kernel
theorem d_Mod_seats_35 : decode b_Mod_seats 35 = .ok (.goto 4, 3) := by decide +kernel
theorem d_Mod_seats_38 : decode b_Mod_seats 38 = .ok (.iconst 0, 1) := by decide +kernel
theorem d_Mod_seats_39 : decode b_Mod_seats 39 = .ok (.bastore, 1) := by decide +kernel
theorem d_Mod_seats_40 : decode b_Mod_seats 40 = .ok (.aload_n 0, 1) := by decide +kernel
theorem d_Mod_seats_41 : decode b_Mod_seats 41 = .ok (.getfield 56, 3) := by decide +kernel
theorem d_Mod_seats_44 : decode b_Mod_seats 44 = .ok (.iload 6, 2) := by decide +kernel
theorem d_Mod_seats_46 : decode b_Mod_seats 46 = .ok (.baload, 1) := by decide +kernel
theorem d_Mod_seats_47 : decode b_Mod_seats 47 = .ok (.ifCond .eq 8, 3) := by decide +kernel
theorem d_Mod_seats_50 : decode b_Mod_seats 50 = .ok (.iload 5, 2) := by decide +kernel
theorem d_Mod_seats_52 : decode b_Mod_seats 52 = .ok (.goto 7, 3) := by decide +kernel
theorem d_Mod_seats_55 : decode b_Mod_seats 55 = .ok (.iload 5, 2) := by decide +kernel
theorem d_Mod_seats_57 : decode b_Mod_seats 57 = .ok (.iconst 1, 1) := by decide +kernel
theorem d_Mod_seats_58 : decode b_Mod_seats 58 = .ok (.iadd, 1) := by decide +kernel
theorem d_Mod_seats_59 : decode b_Mod_seats 59 = .ok (.istore 5, 2) := by decide +kernel
theorem d_Mod_seats_61 : decode b_Mod_seats 61 = .ok (.iinc 6 1, 3) := by decide +kernel
theorem d_Mod_seats_64 : decode b_Mod_seats 64 = .ok (.goto (-58), 3) := by decide +kernel
theorem d_Mod_seats_67 : decode b_Mod_seats 67 = .ok (.bipush (-100), 2) := by decide +kernel
theorem d_Mod_seats_69 : decode b_Mod_seats 69 = .ok (.istore 6, 2) := by decide +kernel
theorem d_Mod_seats_71 : decode b_Mod_seats 71 = .ok (.iload 5, 2) := by decide +kernel
theorem d_Mod_seats_73 : decode b_Mod_seats 73 = .ok (.ifCond .le 195, 3) := by decide +kernel
theorem d_Mod_seats_76 : decode b_Mod_seats 76 = .ok (.iload 6, 2) := by decide +kernel
theorem d_Mod_seats_78 : decode b_Mod_seats 78 = .ok (.bipush 100, 2) := by decide +kernel
theorem d_Mod_seats_80 : decode b_Mod_seats 80 = .ok (.if_icmp .gt 188, 3) := by decide +kernel
theorem d_Mod_seats_83 : decode b_Mod_seats 83 = .ok (.iconst (-1), 1) := by decide +kernel
theorem d_Mod_seats_84 : decode b_Mod_seats 84 = .ok (.istore 7, 2) := by decide +kernel
theorem d_Mod_seats_86 : decode b_Mod_seats 86 = .ok (.sipush 400, 3) := by decide +kernel
theorem d_Mod_seats_89 : decode b_Mod_seats 89 = .ok (.istore 8, 2) := by decide +kernel
theorem d_Mod_seats_91 : decode b_Mod_seats 91 = .ok (.iconst 0, 1) := by decide +kernel
theorem d_Mod_seats_92 : decode b_Mod_seats 92 = .ok (.istore 9, 2) := by decide +kernel
theorem d_Mod_seats_94 : decode b_Mod_seats 94 = .ok (.iload 9, 2) := by decide +kernel
theorem d_Mod_seats_96 : decode b_Mod_seats 96 = .ok (.bipush 10, 2) := by decide +kernel
theorem d_Mod_seats_98 : decode b_Mod_seats 98 = .ok (.if_icmp .ge 128, 3) := by decide +kernel
theorem d_Mod_seats_101 : decode b_Mod_seats 101 = .ok (.aload_n 0, 1) := by decide +kernel
theorem d_Mod_seats_102 : decode b_Mod_seats 102 = .ok (.getfield 50, 3) := by decide +kernel
theorem d_Mod_seats_105 : decode b_Mod_seats 105 = .ok (.bipush 10, 2) := by decide +kernel
theorem d_Mod_seats_107 : decode b_Mod_seats 107 = .ok (.iload_n 1, 1) := by decide +kernel
theorem d_Mod_seats_108 : decode b_Mod_seats 108 = .ok (.imul, 1) := by decide +kernel
theorem d_Mod_seats_109 : decode b_Mod_seats 109 = .ok (.iload 9, 2) := by decide +kernel
theorem d_Mod_seats_111 : decode b_Mod_seats 111 = .ok (.iadd, 1) := by decide +kernel
theorem d_Mod_seats_112 : decode b_Mod_seats 112 = .ok (.iaload, 1) := by decide +kernel
theorem d_Mod_seats_113 : decode b_Mod_seats 113 = .ok (.istore 10, 2) := by decide +kernel
theorem d_Mod_seats_115 : decode b_Mod_seats 115 = .ok (.aload_n 0, 1) := by decide +kernel
theorem d_Mod_seats_116 : decode b_Mod_seats 116 = .ok (.getfield 53, 3) := by decide +kernel
theorem d_Mod_seats_119 : decode b_Mod_seats 119 = .ok (.bipush 10, 2) := by decide +kernel
theorem d_Mod_seats_121 : decode b_Mod_seats 121 = .ok (.iload_n 1, 1) := by decide +kernel
theorem d_Mod_seats_122 : decode b_Mod_seats 122 = .ok (.imul, 1) := by decide +kernel
theorem d_Mod_seats_123 : decode b_Mod_seats 123 = .ok (.iload 9, 2) := by decide +kernel
theorem d_Mod_seats_125 : decode b_Mod_seats 125 = .ok (.iadd, 1) := by decide +kernel
theorem d_Mod_seats_126 : decode b_Mod_seats 126 = .ok (.iaload, 1) := by decide +kernel
theorem d_Mod_seats_127 : decode b_Mod_seats 127 = .ok (.istore 11, 2) := by decide +kernel
theorem d_Mod_seats_129 : decode b_Mod_seats 129 = .ok (.aload_n 0, 1) := by decide +kernel
theorem d_Mod_seats_130 : decode b_Mod_seats 130 = .ok (.getfield 56, 3) := by decide +kernel
theorem d_Mod_seats_133 : decode b_Mod_seats 133 = .ok (.iload 9, 2) := by decide +kernel
theorem d_Mod_seats_135 : decode b_Mod_seats 135 = .ok (.baload, 1) := by decide +kernel
theorem d_Mod_seats_136 : decode b_Mod_seats 136 = .ok (.ifCond .ne 12, 3) := by decide +kernel
theorem d_Mod_seats_139 : decode b_Mod_seats 139 = .ok (.iload 11, 2) := by decide +kernel
theorem d_Mod_seats_141 : decode b_Mod_seats 141 = .ok (.iload 6, 2) := by decide +kernel
theorem d_Mod_seats_143 : decode b_Mod_seats 143 = .ok (.if_icmp .ge 5, 3) := by decide +kernel
theorem d_Mod_seats_146 : decode b_Mod_seats 146 = .ok (.iconst 0, 1) := by decide +kernel
theorem d_Mod_seats_147 : decode b_Mod_seats 147 = .ok (.ireturn, 1) := by decide +kernel
theorem d_Mod_seats_148 : decode b_Mod_seats 148 = .ok (.aload_n 0, 1) := by decide +kernel
theorem d_Mod_seats_149 : decode b_Mod_seats 149 = .ok (.getfield 56, 3) := by decide +kernel
theorem d_Mod_seats_152 : decode b_Mod_seats 152 = .ok (.iload 9, 2) := by decide +kernel
theorem d_Mod_seats_154 : decode b_Mod_seats 154 = .ok (.baload, 1) := by decide +kernel
theorem d_Mod_seats_155 : decode b_Mod_seats 155 = .ok (.ifCond .ne 13, 3) := by decide +kernel
theorem d_Mod_seats_158 : decode b_Mod_seats 158 = .ok (.iload 8, 2) := by decide +kernel
theorem d_Mod_seats_160 : decode b_Mod_seats 160 = .ok (.iload 10, 2) := by decide +kernel
theorem d_Mod_seats_162 : decode b_Mod_seats 162 = .ok (.invokestatic 124, 3) := by decide +kernel
theorem d_Mod_seats_165 : decode b_Mod_seats 165 = .ok (.goto 5, 3) := by decide +kernel
theorem d_Mod_seats_168 : decode b_Mod_seats 168 = .ok (.iload 8, 2) := by decide +kernel
theorem d_Mod_seats_170 : decode b_Mod_seats 170 = .ok (.istore 8, 2) := by decide +kernel
theorem d_Mod_seats_172 : decode b_Mod_seats 172 = .ok (.aload_n 0, 1) := by decide +kernel
theorem d_Mod_seats_173 : decode b_Mod_seats 173 = .ok (.getfield 56, 3) := by decide +kernel
theorem d_Mod_seats_176 : decode b_Mod_seats 176 = .ok (.iload 9, 2) := by decide +kernel
theorem d_Mod_seats_178 : decode b_Mod_seats 178 = .ok (.baload, 1) := by decide +kernel
theorem d_Mod_seats_179 : decode b_Mod_seats 179 = .ok (.ifCond .ne 37, 3) := by decide +kernel
theorem d_Mod_seats_182 : decode b_Mod_seats 182 = .ok (.iload 10, 2) := by decide +kernel
theorem d_Mod_seats_184 : decode b_Mod_seats 184 = .ok (.iload 6, 2) := by decide +kernel
theorem d_Mod_seats_186 : decode b_Mod_seats 186 = .ok (.if_icmp .gt 30, 3) := by decide +kernel
theorem d_Mod_seats_189 : decode b_Mod_seats 189 = .ok (.iload 7, 2) := by decide +kernel
theorem d_Mod_seats_191 : decode b_Mod_seats 191 = .ok (.ifCond .lt 20, 3) := by decide +kernel
theorem d_Mod_seats_194 : decode b_Mod_seats 194 = .ok (.iload 11, 2) := by decide +kernel
theorem d_Mod_seats_196 : decode b_Mod_seats 196 = .ok (.aload_n 0, 1) := by decide +kernel
theorem d_Mod_seats_197 : decode b_Mod_seats 197 = .ok (.getfield 53, 3) := by decide +kernel
theorem d_Mod_seats_200 : decode b_Mod_seats 200 = .ok (.bipush 10, 2) := by decide +kernel
theorem d_Mod_seats_202 : decode b_Mod_seats 202 = .ok (.iload_n 1, 1) := by decide +kernel
theorem d_Mod_seats_203 : decode b_Mod_seats 203 = .ok (.imul, 1) := by decide +kernel
theorem d_Mod_seats_204 : decode b_Mod_seats 204 = .ok (.iload 7, 2) := by decide +kernel
theorem d_Mod_seats_206 : decode b_Mod_seats 206 = .ok (.iadd, 1) := by decide +kernel
theorem d_Mod_seats_207 : decode b_Mod_seats 207 = .ok (.iaload, 1) := by decide +kernel
theorem d_Mod_seats_208 : decode b_Mod_seats 208 = .ok (.if_icmp .ge 8, 3) := by decide +kernel
theorem d_Mod_seats_211 : decode b_Mod_seats 211 = .ok (.iload 9, 2) := by decide +kernel
theorem d_Mod_seats_213 : decode b_Mod_seats 213 = .ok (.goto 5, 3) := by decide +kernel
theorem d_Mod_seats_216 : decode b_Mod_seats 216 = .ok (.iload 7, 2) := by decide +kernel
theorem d_Mod_seats_218 : decode b_Mod_seats 218 = .ok (.istore 7, 2) := by decide +kernel
theorem d_Mod_seats_220 : decode b_Mod_seats 220 = .ok (.iinc 9 1, 3) := by decide +kernel
theorem d_Mod_seats_223 : decode b_Mod_seats 223 = .ok (.goto (-129), 3) := by decide +kernel
theorem d_Mod_seats_226 : decode b_Mod_seats 226 = .ok (.iload 7, 2) := by decide +kernel
theorem d_Mod_seats_228 : decode b_Mod_seats 228 = .ok (.ifCond .lt 21, 3) := by decide +kernel
theorem d_Mod_seats_231 : decode b_Mod_seats 231 = .ok (.iload 6, 2) := by decide +kernel
theorem d_Mod_seats_233 : decode b_Mod_seats 233 = .ok (.iload 4, 2) := by decide +kernel
theorem d_Mod_seats_235 : decode b_Mod_seats 235 = .ok (.if_icmp .eq 14, 3) := by decide +kernel
theorem d_Mod_seats_238 : decode b_Mod_seats 238 = .ok (.aload_n 0, 1) := by decide +kernel
theorem d_Mod_seats_239 : decode b_Mod_seats 239 = .ok (.getfield 56, 3) := by decide +kernel
theorem d_Mod_seats_242 : decode b_Mod_seats 242 = .ok (.iload 7, 2) := by decide +kernel
theorem d_Mod_seats_244 : decode b_Mod_seats 244 = .ok (.iconst 1, 1) := by decide +kernel
theorem d_Mod_seats_245 : decode b_Mod_seats 245 = .ok (.bastore, 1) := by decide +kernel
theorem d_Mod_seats_246 : decode b_Mod_seats 246 = .ok (.iinc 5 (-1), 3) := by decide +kernel
theorem d_Mod_seats_249 : decode b_Mod_seats 249 = .ok (.iload 7, 2) := by decide +kernel
theorem d_Mod_seats_251 : decode b_Mod_seats 251 = .ok (.ifCond .ge 8, 3) := by decide +kernel
theorem d_Mod_seats_254 : decode b_Mod_seats 254 = .ok (.iload 8, 2) := by decide +kernel
theorem d_Mod_seats_256 : decode b_Mod_seats 256 = .ok (.goto 7, 3) := by decide +kernel
theorem d_Mod_seats_259 : decode b_Mod_seats 259 = .ok (.iload 6, 2) := by decide +kernel
theorem d_Mod_seats_261 : decode b_Mod_seats 261 = .ok (.iconst 1, 1) := by decide +kernel
theorem d_Mod_seats_262 : decode b_Mod_seats 262 = .ok (.iadd, 1) := by decide +kernel
theorem d_Mod_seats_263 : decode b_Mod_seats 263 = .ok (.istore 6, 2) := by decide +kernel
theorem d_Mod_seats_265 : decode b_Mod_seats 265 = .ok (.goto (-194), 3) := by decide +kernel
theorem d_Mod_seats_268 : decode b_Mod_seats 268 = .ok (.iload 5, 2) := by decide +kernel
theorem d_Mod_seats_270 : decode b_Mod_seats 270 = .ok (.ifCond .ne 7, 3) := by decide +kernel
theorem d_Mod_seats_273 : decode b_Mod_seats 273 = .ok (.iconst 1, 1) := by decide +kernel
theorem d_Mod_seats_274 : decode b_Mod_seats 274 = .ok (.goto 4, 3) := by decide +kernel
theorem d_Mod_seats_277 : decode b_Mod_seats 277 = .ok (.iconst 0, 1) := by decide +kernel
theorem d_Mod_seats_278 : decode b_Mod_seats 278 = .ok (.ireturn, 1) := by decide +kernel
set_option maxHeartbeats 4000000 in
set_option maxRecDepth 20000 in
theorem k_Mod_seats (l : Launch) (D : va_G) (cA : Nat → ClassId) (adr : Nat → Nat) (hi : wI mN adr) (I : Nat → Int32) (F : Nat → Nat → Int32) (d nn mk ck : Nat) (xd xm xk v : Int32) (hn : nn ≤ 10) (hd : d < 12) (hxd : xd.toInt = (d : Int)) (hxm : xm.toInt = (mk : Int)) (hxk : xk.toInt = (ck : Int)) (hv : -100 ≤ v.toInt ∧ v.toInt ≤ 100) (hm : ∀ j, j < 10 → mk.testBit j = true → j < nn) (hne : Ne nn (bl F d) (bh F d)) (hrg : ∀ k, k < nn → -100 ≤ bl F d k ∧ bh F d k ≤ 100) : Ct l y_Mod_seats b_Mod_seats 12 (some .boolean) 4 D cA [.ref (adr 0), .int xd, .int xm, .int xk, .int v] (fun H => MP D cA adr I F H) (fun r H => ∃ (G : Nat → Int32) (q : Bool), r = some (.int (bi q)) ∧ (q = true ↔ SE (fun j => mk.testBit j) ck v.toInt (bl F d) (bh F d)) ∧ MP D cA adr I (va_up F 27 G) H) (wA mN adr) := by
  refine Ct.mk (by decide) (Nat.le_of_ble_eq_true rfl) ?_
  intro p e s m args below meth c Q H locs ls hx hb hr hml hlk hown hin hK hQ hS hP hl
  have hl : lv_has ls 12 [(0, .ref (adr 0)), (1, .int xd), (2, .int xm), (3, .int xk), (4, .int v)] := hl
  have hown : s.vm.findClass "RangeSheetModel" = some m.cls := hown
  have hP : MP D cA adr I (va_up F 27 (F 27)) H := by rw [va_up_eta]; exact hP
  refine lv_iconst (v := 0) hx hb d_Mod_seats_0 (by decide) ?_
  refine lv_istore (lv' := [(5, .int (0 : Int32)), (0, .ref (adr 0)), (1, .int xd), (2, .int xm), (3, .int xk), (4, .int v)]) hx hb d_Mod_seats_1 hl (by decide) rfl (fun ls hl => ?_)
  refine lv_iconst (v := 0) hx hb d_Mod_seats_3 (by decide) ?_
  refine lv_istore (lv' := [(6, .int (0 : Int32)), (5, .int (0 : Int32)), (0, .ref (adr 0)), (1, .int xd), (2, .int xm), (3, .int xk), (4, .int v)]) hx hb d_Mod_seats_4 hl (by decide) rfl (fun ls hl => ?_)
  have L_1 : ∀ (n : Nat) (jx : Nat) (x5 : Int32) (x6 : Int32) (G : Nat → Int32) (H : Heap) (locs : List Loc) (ls : Array Slot), (10 - jx) < n → (jx ≤ 10) → (x5.toInt = cu jx (fun j => mk.testBit j && (j != ck))) → (x6.toInt = (jx : Int)) → (∀ i, i < jx → G i = bi (!((fun j => mk.testBit j && (j != ck)) i))) → MP D cA adr I (va_up F 27 G) H → va_S (wA mN adr) s.heap H locs → lv_has ls 12 [(0, .ref (adr 0)), (1, .int xd), (2, .int xm), (3, .int xk), (4, .int v), (5, .int x5), (6, .int x6)] → W p l e (rl 4) s m args below meth c H locs 0 0 Q (F0 m 6 ls []) := by
    intro n
    induction n with
    | zero => intro jx x5 x6 G H locs ls hmu; exact absurd hmu (Nat.not_lt_zero _)
    | succ n ih_1 =>
      intro jx x5 x6 G H locs ls hmu hjx h5 h6 hG hP hS hl
      have hcu := cu_nn (m := jx) (U := (fun j => mk.testBit j && (j != ck)))
      refine lv_iload hx hb d_Mod_seats_6 (lv_at hl 6 rfl) ?_
      refine lv_bipush (v := 10) hx hb d_Mod_seats_8 (by decide) ?_
      refine b_icmp_ge (tgt := 67) hx hb d_Mod_seats_10 (by decide) h6 kc_10 (fun c_2 => ?_) (fun c_2 => ?_)
      · refine lv_bipush (v := (-100)) hx hb d_Mod_seats_67 (by decide) ?_
        refine lv_istore (lv' := [(6, .int (-100 : Int32)), (0, .ref (adr 0)), (1, .int xd), (2, .int xm), (3, .int xk), (4, .int v), (5, .int x5)]) hx hb d_Mod_seats_69 hl (by decide) rfl (fun ls hl => ?_)
        have L_3 : ∀ (n : Nat) (U : Nat → Bool) (x5 : Int32) (x6 : Int32) (G : Nat → Int32) (H : Heap) (locs : List Loc) (ls : Array Slot), (102 - x6.toInt).toNat < n → (x5.toInt = cu 10 U) → (-100 ≤ x6.toInt ∧ x6.toInt ≤ 101) → (∀ i, i < 10 → G i = bi (!U i)) → (∀ i, i < 10 → U i = true → mk.testBit i = true) → (CC (fun j => mk.testBit j && (j != ck)) (bl F d) (bh F d) (-100) v.toInt ↔ CC U (bl F d) (bh F d) x6.toInt v.toInt) → MP D cA adr I (va_up F 27 G) H → va_S (wA mN adr) s.heap H locs → lv_has ls 12 [(0, .ref (adr 0)), (1, .int xd), (2, .int xm), (3, .int xk), (4, .int v), (5, .int x5), (6, .int x6)] → W p l e (rl 4) s m args below meth c H locs 0 0 Q (F0 m 71 ls []) := by
          intro n
          induction n with
          | zero => intro U x5 x6 G H locs ls hmu; exact absurd hmu (Nat.not_lt_zero _)
          | succ n ih_3 =>
            intro U x5 x6 G H locs ls hmu h5 h6 hG hU hE hP hS hl
            have hcu := cu_nn (m := 10) (U := U)
            refine lv_iload hx hb d_Mod_seats_71 (lv_at hl 5 rfl) ?_
            refine b_if_le (tgt := 268) hx hb d_Mod_seats_73 (by decide) rfl (fun c_4 => ?_) (fun c_4 => ?_)
            · refine lv_iload hx hb d_Mod_seats_268 (lv_at hl 5 rfl) ?_
              refine b_if_ne (tgt := 277) hx hb d_Mod_seats_270 (by decide) rfl (fun c_5 => ?_) (fun c_5 => ?_)
              · exfalso; omega
              · refine lv_iconst (v := 1) hx hb d_Mod_seats_273 (by decide) ?_
                refine lv_goto (tgt := 278) hx hb d_Mod_seats_274 (by decide) ?_
                refine W.eq (g2 := F0 m 278 ls [.int (bi true)]) rfl ?_
                refine e_z hx hb hr hlk hQ hS d_Mod_seats_278 ?_
                refine ⟨_, true, rfl, ⟨fun _ => hE.mpr (CC.empty (cu_0 (by omega))), fun _ => rfl⟩, hP⟩
            · refine lv_iload hx hb d_Mod_seats_76 (lv_at hl 6 rfl) ?_
              refine lv_bipush (v := 100) hx hb d_Mod_seats_78 (by decide) ?_
              refine b_icmp_gt (tgt := 268) hx hb d_Mod_seats_80 (by decide) rfl kc_100 (fun c_6 => ?_) (fun c_6 => ?_)
              · refine lv_iload hx hb d_Mod_seats_268 (lv_at hl 5 rfl) ?_
                refine b_if_ne (tgt := 277) hx hb d_Mod_seats_270 (by decide) rfl (fun c_7 => ?_) (fun c_7 => ?_)
                · refine lv_iconst (v := 0) hx hb d_Mod_seats_277 (by decide) ?_
                  refine W.eq (g2 := F0 m 278 ls [.int (bi false)]) rfl ?_
                  refine e_z hx hb hr hlk hQ hS d_Mod_seats_278 ?_
                  refine ⟨_, false, rfl, ⟨fun h => absurd h (by decide), fun h => ?_⟩, hP⟩
                  obtain ⟨j, hj, hju⟩ := cu_ex (m := 10) (U := U) (by omega)
                  have hjr := hrg j (hm j hj (hU j hj hju))
                  exact absurd (hE.mp h) (CC.late hj hju (by omega))
                · exfalso; omega
              · refine lv_iconst (v := (-1)) hx hb d_Mod_seats_83 (by decide) ?_
                refine lv_istore (lv' := [(7, .int (-1 : Int32)), (0, .ref (adr 0)), (1, .int xd), (2, .int xm), (3, .int xk), (4, .int v), (5, .int x5), (6, .int x6)]) hx hb d_Mod_seats_84 hl (by decide) rfl (fun ls hl => ?_)
                refine lv_sipush (v := 400) hx hb d_Mod_seats_86 (by decide) ?_
                refine lv_istore (lv' := [(8, .int (400 : Int32)), (7, .int (-1 : Int32)), (0, .ref (adr 0)), (1, .int xd), (2, .int xm), (3, .int xk), (4, .int v), (5, .int x5), (6, .int x6)]) hx hb d_Mod_seats_89 hl (by decide) rfl (fun ls hl => ?_)
                refine lv_iconst (v := 0) hx hb d_Mod_seats_91 (by decide) ?_
                refine lv_istore (lv' := [(9, .int (0 : Int32)), (8, .int (400 : Int32)), (7, .int (-1 : Int32)), (0, .ref (adr 0)), (1, .int xd), (2, .int xm), (3, .int xk), (4, .int v), (5, .int x5), (6, .int x6)]) hx hb d_Mod_seats_92 hl (by decide) rfl (fun ls hl => ?_)
                have L_8 : ∀ (n : Nat) (jy : Nat) (x7 : Int32) (x8 : Int32) (x9 : Int32) (H : Heap) (locs : List Loc) (ls : Array Slot), (10 - jy) < n → (jy ≤ 10) → (x9.toInt = (jy : Int)) → (∀ i, i < jy → U i = true → x6.toInt ≤ bh F d i) → (Best U (bl F d) (bh F d) x6.toInt x7.toInt jy) → (Nxt U (bl F d) x8.toInt jy) → MP D cA adr I (va_up F 27 G) H → va_S (wA mN adr) s.heap H locs → lv_has ls 12 [(0, .ref (adr 0)), (1, .int xd), (2, .int xm), (3, .int xk), (4, .int v), (5, .int x5), (6, .int x6), (7, .int x7), (8, .int x8), (9, .int x9)] → W p l e (rl 4) s m args below meth c H locs 0 0 Q (F0 m 94 ls []) := by
                  intro n
                  induction n with
                  | zero => intro jy x7 x8 x9 H locs ls hmu; exact absurd hmu (Nat.not_lt_zero _)
                  | succ n ih_8 =>
                    intro jy x7 x8 x9 H locs ls hmu hjy h9 hlive hB hN hP hS hl
                    have hb7 := hB.rg hjy
                    refine lv_iload hx hb d_Mod_seats_94 (lv_at hl 9 rfl) ?_
                    refine lv_bipush (v := 10) hx hb d_Mod_seats_96 (by decide) ?_
                    refine b_icmp_ge (tgt := 226) hx hb d_Mod_seats_98 (by decide) h9 kc_10 (fun c_9 => ?_) (fun c_9 => ?_)
                    · refine lv_iload hx hb d_Mod_seats_226 (lv_at hl 7 rfl) ?_
                      refine b_if_lt (tgt := 249) hx hb d_Mod_seats_228 (by decide) rfl (fun c_10 => ?_) (fun c_10 => ?_)
                      · refine lv_iload hx hb d_Mod_seats_249 (lv_at hl 7 rfl) ?_
                        refine b_if_ge (tgt := 259) hx hb d_Mod_seats_251 (by decide) rfl (fun c_11 => ?_) (fun c_11 => ?_)
                        · exfalso; omega
                        · refine lv_iload hx hb d_Mod_seats_254 (lv_at hl 8 rfl) ?_
                          refine lv_goto (tgt := 263) hx hb d_Mod_seats_256 (by decide) ?_
                          refine lv_istore (lv' := [(6, .int x8), (0, .ref (adr 0)), (1, .int xd), (2, .int xm), (3, .int xk), (4, .int v), (5, .int x5), (7, .int x7), (8, .int x8), (9, .int x9)]) hx hb d_Mod_seats_263 hl (by decide) rfl (fun ls hl => ?_)
                          refine lv_goto (tgt := 71) hx hb d_Mod_seats_265 (by decide) ?_
                          obtain ⟨jz, hjz, hjzu⟩ := cu_ex (m := 10) (U := U) (by omega)
                          rw [show jy = 10 by omega] at hN hB hlive
                          have hB2 : ∀ i, i < 10 → U i = true → x6.toInt < bl F d i := by rcases hB with h | ⟨b, h1, h2, -⟩; exact h.2; omega
                          have hx8 : x6.toInt < x8.toInt ∧ x8.toInt ≤ 100 := by rcases hN.2 with ⟨-, h⟩ | ⟨i, h1, h2, h3⟩; rw [h jz hjz] at hjzu; cases hjzu; have a1 := hB2 i h1 h2; have a2 := hrg i (hm i h1 (hU i h1 h2)); have a3 := hne i (hm i h1 (hU i h1 h2)); omega
                          have hE9 := hE.trans (CC.jump (t := x6.toInt) (w := x8.toInt) (v := v.toInt) (by omega) (fun i hi hu => hN.1 i hi hu))
                          exact ih_3 U x5 x8 G _ _ _ (by omega) h5 (by omega) hG hU hE9 hP hS (lv_sub hl [1, 2, 3, 4, 5, 6, 0] rfl)
                      · obtain ⟨bb, hb1, hb2, hb3, hb4, hb5⟩ : ∃ b : Nat, b < jy ∧ x7.toInt = (b : Int) ∧ U b = true ∧ bl F d b ≤ x6.toInt ∧ ∀ i, i < jy → U i = true → bl F d i ≤ x6.toInt → bh F d b ≤ bh F d i := by rcases hB with h | h; omega; exact h
                        rw [show jy = 10 by omega] at hb5 hlive
                        refine lv_iload hx hb d_Mod_seats_231 (lv_at hl 6 rfl) ?_
                        refine lv_iload hx hb d_Mod_seats_233 (lv_at hl 4 rfl) ?_
                        refine b_icmp_eq (tgt := 249) hx hb d_Mod_seats_235 (by decide) rfl rfl (fun c_12 => ?_) (fun c_12 => ?_)
                        · refine lv_iload hx hb d_Mod_seats_249 (lv_at hl 7 rfl) ?_
                          refine b_if_ge (tgt := 259) hx hb d_Mod_seats_251 (by decide) hb2 (fun c_13 => ?_) (fun c_13 => ?_)
                          · refine lv_iload hx hb d_Mod_seats_259 (lv_at hl 6 rfl) ?_
                            refine lv_iconst (v := 1) hx hb d_Mod_seats_261 (by decide) ?_
                            refine x_add hx hb d_Mod_seats_262 rfl kc_1 (by omega) (fun z_14 tz_14 => ?_)
                            refine lv_istore (lv' := [(6, .int z_14), (0, .ref (adr 0)), (1, .int xd), (2, .int xm), (3, .int xk), (4, .int v), (5, .int x5), (7, .int x7), (8, .int x8), (9, .int x9)]) hx hb d_Mod_seats_263 hl (by decide) rfl (fun ls hl => ?_)
                            refine lv_goto (tgt := 71) hx hb d_Mod_seats_265 (by decide) ?_
                            have hE9 := hE
                            rw [show x6.toInt = v.toInt from by omega] at hE9
                            have hE9 := hE9.trans CC.skip
                            rw [show v.toInt + 1 = z_14.toInt from by omega] at hE9
                            exact ih_3 U x5 z_14 G _ _ _ (by omega) h5 (by omega) hG hU hE9 hP hS (lv_sub hl [1, 2, 3, 4, 5, 6, 0] rfl)
                          · exfalso; omega
                        · refine lv_aload_n hx hb d_Mod_seats_238 rfl (lv_at hl 0 rfl) ?_
                          refine m_gr hx hb hK hown hP 27 (by decide) t_764 d_Mod_seats_239 ?_
                          refine lv_iload hx hb d_Mod_seats_242 (lv_at hl 7 rfl) ?_
                          refine lv_iconst (v := 1) hx hb d_Mod_seats_244 (by decide) ?_
                          refine W.eq (g2 := F0 m 245 ls (.int (bi true) :: [.int x7, .ref (adr 27)])) rfl ?_
                          refine m_zst hx hb hK hi hP hS wA_mem 27 (by decide) (bb) hb2 (by omega) (show bb < 10 by omega) d_Mod_seats_245 (fun H locs hP hS => ?_)
                          have hP : MP D cA adr I (va_up F 27 (upd G (bb) (bi true))) H := by rw [bx_uu] at hP; exact hP
                          refine x_iinc (k := 5) (lv' := fun v_ => [(5, .int v_), (0, .ref (adr 0)), (1, .int xd), (2, .int xm), (3, .int xk), (4, .int v), (6, .int x6), (7, .int x7), (8, .int x8), (9, .int x9)]) hx hb d_Mod_seats_246 hl rfl rfl (by decide) (by omega) (by decide) (fun v_ => rfl) (fun z_15 tz_15 ls hl => ?_)
                          refine lv_iload hx hb d_Mod_seats_249 (lv_at hl 7 rfl) ?_
                          refine b_if_ge (tgt := 259) hx hb d_Mod_seats_251 (by decide) hb2 (fun c_16 => ?_) (fun c_16 => ?_)
                          · refine lv_iload hx hb d_Mod_seats_259 (lv_at hl 6 rfl) ?_
                            refine lv_iconst (v := 1) hx hb d_Mod_seats_261 (by decide) ?_
                            refine x_add hx hb d_Mod_seats_262 rfl kc_1 (by omega) (fun z_17 tz_17 => ?_)
                            refine lv_istore (lv' := [(6, .int z_17), (5, .int z_15), (0, .ref (adr 0)), (1, .int xd), (2, .int xm), (3, .int xk), (4, .int v), (7, .int x7), (8, .int x8), (9, .int x9)]) hx hb d_Mod_seats_263 hl (by decide) rfl (fun ls hl => ?_)
                            refine lv_goto (tgt := 71) hx hb d_Mod_seats_265 (by decide) ?_
                            have hE9 := hE.trans (CC.take (b := bb) (by omega) hb3 hb4 (hlive bb (by omega) hb3) (by omega) (fun i hi hu hl2 => hb5 i hi hu hl2) (fun i hi hu => hlive i hi hu))
                            rw [← tz_17] at hE9
                            have hd := cu_del (m := 10) (U := U) (k := bb) (by omega) hb3
                            exact ih_3 (fun j => U j && (j != bb)) z_15 z_17 (upd G (bb) (bi true)) _ _ _ (by omega) (by omega) (by omega) (fun i hi => by by_cases q : i = bb; (rw [q, upd, if_pos rfl]; simp); (rw [upd, if_neg q, hG i hi]; have q2 : (i != bb) = true := (by simpa using q); show bi _ = bi (!(U i && (i != bb))); rw [q2, Bool.and_true])) (fun i hi h => by simp at h; exact hU i hi h.1) hE9 hP hS (lv_sub hl [2, 3, 4, 5, 6, 1, 0] rfl)
                          · exfalso; omega
                    · refine lv_aload_n hx hb d_Mod_seats_101 rfl (lv_at hl 0 rfl) ?_
                      refine m_gr hx hb hK hown hP 18 (by decide) t_755 d_Mod_seats_102 ?_
                      refine lv_bipush (v := 10) hx hb d_Mod_seats_105 (by decide) ?_
                      refine lv_iload_n hx hb d_Mod_seats_107 rfl (lv_at hl 1 rfl) ?_
                      refine x_mul hx hb d_Mod_seats_108 kc_10 hxd (by omega) (fun z_18 tz_18 => ?_)
                      refine lv_iload hx hb d_Mod_seats_109 (lv_at hl 9 rfl) ?_
                      refine x_add hx hb d_Mod_seats_111 tz_18 h9 (by omega) (fun z_19 tz_19 => ?_)
                      refine m_ld hx hb hK hP 18 (by decide) (((10 * d) + jy)) tz_19 (by omega) (show ((10 * d) + jy) < 120 by omega) d_Mod_seats_112 (fun z_20 ez_20 => ?_)
                      have ez_20 : z_20 = F 18 ((10 * d) + jy) := ez_20
                      subst ez_20
                      refine lv_istore (lv' := [(10, .int (F 18 ((10 * d) + jy))), (0, .ref (adr 0)), (1, .int xd), (2, .int xm), (3, .int xk), (4, .int v), (5, .int x5), (6, .int x6), (7, .int x7), (8, .int x8), (9, .int x9)]) hx hb d_Mod_seats_113 hl (by decide) rfl (fun ls hl => ?_)
                      refine lv_aload_n hx hb d_Mod_seats_115 rfl (lv_at hl 1 rfl) ?_
                      refine m_gr hx hb hK hown hP 19 (by decide) t_756 d_Mod_seats_116 ?_
                      refine lv_bipush (v := 10) hx hb d_Mod_seats_119 (by decide) ?_
                      refine lv_iload_n hx hb d_Mod_seats_121 rfl (lv_at hl 2 rfl) ?_
                      refine x_mul hx hb d_Mod_seats_122 kc_10 hxd (by omega) (fun z_21 tz_21 => ?_)
                      refine lv_iload hx hb d_Mod_seats_123 (lv_at hl 10 rfl) ?_
                      refine x_add hx hb d_Mod_seats_125 tz_21 h9 (by omega) (fun z_22 tz_22 => ?_)
                      refine m_ld hx hb hK hP 19 (by decide) (((10 * d) + jy)) tz_22 (by omega) (show ((10 * d) + jy) < 120 by omega) d_Mod_seats_126 (fun z_23 ez_23 => ?_)
                      have ez_23 : z_23 = F 19 ((10 * d) + jy) := ez_23
                      subst ez_23
                      refine lv_istore (lv' := [(11, .int (F 19 ((10 * d) + jy))), (10, .int (F 18 ((10 * d) + jy))), (0, .ref (adr 0)), (1, .int xd), (2, .int xm), (3, .int xk), (4, .int v), (5, .int x5), (6, .int x6), (7, .int x7), (8, .int x8), (9, .int x9)]) hx hb d_Mod_seats_127 hl (by decide) rfl (fun ls hl => ?_)
                      refine lv_aload_n hx hb d_Mod_seats_129 rfl (lv_at hl 2 rfl) ?_
                      refine m_gr hx hb hK hown hP 27 (by decide) t_764 d_Mod_seats_130 ?_
                      refine lv_iload hx hb d_Mod_seats_133 (lv_at hl 11 rfl) ?_
                      refine m_zld hx hb hK hP 27 (by decide) (jy) h9 (by omega) (show jy < 10 by omega) d_Mod_seats_135 (fun z_24 ez_24 => ?_)
                      have ez_24 : z_24 = bi (!U jy) := ez_24.trans (hG jy (by omega))
                      rw [ez_24]
                      have M_25 : (U jy = true → x6.toInt ≤ bh F d jy) → W p l e (rl 4) s m args below meth c H locs 0 0 Q (F0 m 148 ls []) := by
                        intro hlv
                        refine lv_aload_n hx hb d_Mod_seats_148 rfl (lv_at hl 2 rfl) ?_
                        refine m_gr hx hb hK hown hP 27 (by decide) t_764 d_Mod_seats_149 ?_
                        refine lv_iload hx hb d_Mod_seats_152 (lv_at hl 11 rfl) ?_
                        refine m_zld hx hb hK hP 27 (by decide) (jy) h9 (by omega) (show jy < 10 by omega) d_Mod_seats_154 (fun z_26 ez_26 => ?_)
                        have ez_26 : z_26 = bi (!U jy) := ez_26.trans (hG jy (by omega))
                        rw [ez_26]
                        have K_227 : ∀ (z_227_0 : Int32) (locs : List Loc), z_227_0.toInt = (if (!U jy) = true then x8.toInt else (min x8.toInt (F 18 ((10 * d) + jy)).toInt)) → va_S (wA mN adr) s.heap H locs → W p l e (rl 4) s m args below meth c H locs 0 0 Q (F0 m 170 ls [.int z_227_0]) := by
                          intro z_227_0 locs hz_227_0 hS
                          refine lv_istore (lv' := [(8, .int z_227_0), (11, .int (F 19 ((10 * d) + jy))), (10, .int (F 18 ((10 * d) + jy))), (0, .ref (adr 0)), (1, .int xd), (2, .int xm), (3, .int xk), (4, .int v), (5, .int x5), (6, .int x6), (7, .int x7), (9, .int x9)]) hx hb d_Mod_seats_170 hl (by decide) rfl (fun ls hl => ?_)
                          refine lv_aload_n hx hb d_Mod_seats_172 rfl (lv_at hl 3 rfl) ?_
                          refine m_gr hx hb hK hown hP 27 (by decide) t_764 d_Mod_seats_173 ?_
                          refine lv_iload hx hb d_Mod_seats_176 (lv_at hl 11 rfl) ?_
                          refine m_zld hx hb hK hP 27 (by decide) (jy) h9 (by omega) (show jy < 10 by omega) d_Mod_seats_178 (fun z_228 ez_228 => ?_)
                          have ez_228 : z_228 = bi (!U jy) := ez_228.trans (hG jy (by omega))
                          rw [ez_228]
                          have K_429 : ∀ (z_429_0 : Int32), z_429_0.toInt = (if (!U jy) = true then x7.toInt else (if x6.toInt < (F 18 ((10 * d) + jy)).toInt then x7.toInt else (if x7.toInt < 0 then (jy : Int) else (if (F 19 (((10 * (d : Int)) + x7.toInt)).toNat).toInt ≤ (F 19 ((10 * d) + jy)).toInt then x7.toInt else (jy : Int))))) → W p l e (rl 4) s m args below meth c H locs 0 0 Q (F0 m 218 ls [.int z_429_0]) := by
                            intro z_429_0 hz_429_0
                            refine lv_istore (lv' := [(7, .int z_429_0), (8, .int z_227_0), (11, .int (F 19 ((10 * d) + jy))), (10, .int (F 18 ((10 * d) + jy))), (0, .ref (adr 0)), (1, .int xd), (2, .int xm), (3, .int xk), (4, .int v), (5, .int x5), (6, .int x6), (9, .int x9)]) hx hb d_Mod_seats_218 hl (by decide) rfl (fun ls hl => ?_)
                            refine x_iinc (k := 11) (lv' := fun v_ => [(9, .int v_), (7, .int z_429_0), (8, .int z_227_0), (11, .int (F 19 ((10 * d) + jy))), (10, .int (F 18 ((10 * d) + jy))), (0, .ref (adr 0)), (1, .int xd), (2, .int xm), (3, .int xk), (4, .int v), (5, .int x5), (6, .int x6)]) hx hb d_Mod_seats_220 hl rfl h9 (by decide) (by omega) (by decide) (fun v_ => rfl) (fun z_430 tz_430 ls hl => ?_)
                            refine lv_goto (tgt := 94) hx hb d_Mod_seats_223 (by decide) ?_
                            have hB9 := hB.step (y := z_429_0.toInt) (g := (F 19 ((10 * (d : Int)) + x7.toInt).toNat).toInt) hz_429_0 (fun h0 => by unfold bh; rw [show ((10 * (d : Int)) + x7.toInt).toNat = 10 * d + x7.toInt.toNat from by omega])
                            have hN9 := hN.step (y := z_227_0.toInt) hz_227_0 (fun hu => by have a1 := hrg jy (hm jy (by omega) (hU jy (by omega) hu)); have a2 := hne jy (hm jy (by omega) (hU jy (by omega) hu)); omega)
                            exact ih_8 (jy + 1) z_429_0 z_227_0 z_430 _ _ _ (by omega) (by omega) (by omega) (fun i hi hu => by rcases (by omega : i < jy ∨ i = jy) with q | q; exact hlive i q hu; (rw [q] at hu ⊢; exact hlv hu)) hB9 hN9 hP hS (lv_sub hl [5, 6, 7, 8, 9, 10, 11, 1, 2, 0] rfl)
                          refine b_bool_ne (tgt := 216) hx hb d_Mod_seats_179 (by decide) (fun c_431 => ?_) (fun c_431 => ?_)
                          · refine lv_iload hx hb d_Mod_seats_216 (lv_at hl 10 rfl) ?_
                            exact K_429 x7 (by first | omega | (simp [c_431]; done) | (simp [c_431]; omega) | (simp only [decide_eq_true_eq, decide_eq_false_iff_not]; omega))
                          · refine lv_iload hx hb d_Mod_seats_182 (lv_at hl 2 rfl) ?_
                            refine lv_iload hx hb d_Mod_seats_184 (lv_at hl 9 rfl) ?_
                            refine b_icmp_gt (tgt := 216) hx hb d_Mod_seats_186 (by decide) rfl rfl (fun c_432 => ?_) (fun c_432 => ?_)
                            · refine lv_iload hx hb d_Mod_seats_216 (lv_at hl 10 rfl) ?_
                              exact K_429 x7 (by first | omega | (simp [c_431, c_432]; done) | (simp [c_431, c_432]; omega) | (simp only [decide_eq_true_eq, decide_eq_false_iff_not]; omega))
                            · refine lv_iload hx hb d_Mod_seats_189 (lv_at hl 10 rfl) ?_
                              refine b_if_lt (tgt := 211) hx hb d_Mod_seats_191 (by decide) rfl (fun c_433 => ?_) (fun c_433 => ?_)
                              · refine lv_iload hx hb d_Mod_seats_211 (lv_at hl 11 rfl) ?_
                                refine lv_goto (tgt := 218) hx hb d_Mod_seats_213 (by decide) ?_
                                exact K_429 x9 (by first | omega | (simp [c_431, c_432, c_433]; done) | (simp [c_431, c_432, c_433]; omega) | (simp only [decide_eq_true_eq, decide_eq_false_iff_not]; omega))
                              · refine lv_iload hx hb d_Mod_seats_194 (lv_at hl 1 rfl) ?_
                                refine lv_aload_n hx hb d_Mod_seats_196 rfl (lv_at hl 3 rfl) ?_
                                refine m_gr hx hb hK hown hP 19 (by decide) t_756 d_Mod_seats_197 ?_
                                refine lv_bipush (v := 10) hx hb d_Mod_seats_200 (by decide) ?_
                                refine lv_iload_n hx hb d_Mod_seats_202 rfl (lv_at hl 4 rfl) ?_
                                refine x_mul hx hb d_Mod_seats_203 kc_10 hxd (by omega) (fun z_434 tz_434 => ?_)
                                refine lv_iload hx hb d_Mod_seats_204 (lv_at hl 10 rfl) ?_
                                refine x_add hx hb d_Mod_seats_206 tz_434 rfl (by omega) (fun z_435 tz_435 => ?_)
                                refine m_ld hx hb hK hP 19 (by decide) ((((10 * (d : Int)) + x7.toInt)).toNat) tz_435 (by omega) (show (((10 * (d : Int)) + x7.toInt)).toNat < 120 by omega) d_Mod_seats_207 (fun z_436 ez_436 => ?_)
                                have ez_436 : z_436 = F 19 (((10 * (d : Int)) + x7.toInt)).toNat := ez_436
                                subst ez_436
                                refine b_icmp_ge (tgt := 216) hx hb d_Mod_seats_208 (by decide) rfl rfl (fun c_437 => ?_) (fun c_437 => ?_)
                                · refine lv_iload hx hb d_Mod_seats_216 (lv_at hl 10 rfl) ?_
                                  exact K_429 x7 (by first | omega | (simp [c_431, c_432, c_433, c_437]; done) | (simp [c_431, c_432, c_433, c_437]; omega) | (simp only [decide_eq_true_eq, decide_eq_false_iff_not]; omega))
                                · refine lv_iload hx hb d_Mod_seats_211 (lv_at hl 11 rfl) ?_
                                  refine lv_goto (tgt := 218) hx hb d_Mod_seats_213 (by decide) ?_
                                  exact K_429 x9 (by first | omega | (simp [c_431, c_432, c_433, c_437]; done) | (simp [c_431, c_432, c_433, c_437]; omega) | (simp only [decide_eq_true_eq, decide_eq_false_iff_not]; omega))
                        refine b_bool_ne (tgt := 168) hx hb d_Mod_seats_155 (by decide) (fun c_438 => ?_) (fun c_438 => ?_)
                        · refine lv_iload hx hb d_Mod_seats_168 (lv_at hl 10 rfl) ?_
                          exact K_227 x8 locs (by first | omega | (simp [c_438]; done) | (simp [c_438]; omega) | (simp only [decide_eq_true_eq, decide_eq_false_iff_not]; omega)) hS
                        · refine lv_iload hx hb d_Mod_seats_158 (lv_at hl 10 rfl) ?_
                          refine lv_iload hx hb d_Mod_seats_160 (lv_at hl 1 rfl) ?_
                          refine r_Mod_lesser hx hb hml hown hK hl.1 hS ⟨Nat.le_of_ble_eq_true rfl, Nat.le_of_ble_eq_true rfl⟩ ⟨Nat.le_of_ble_eq_true rfl, Nat.le_of_ble_eq_true rfl⟩ rfl rfl  d_Mod_seats_162 (Nat.le_of_ble_eq_true rfl) (fun z_439 locs tz_439 hS => ?_)
                          refine lv_goto (tgt := 170) hx hb d_Mod_seats_165 (by decide) ?_
                          exact K_227 z_439 locs (by first | omega | (simp [c_438]; done) | (simp [c_438]; omega) | (simp only [decide_eq_true_eq, decide_eq_false_iff_not]; omega)) hS
                      refine b_bool_ne (tgt := 148) hx hb d_Mod_seats_136 (by decide) (fun c_440 => ?_) (fun c_440 => ?_)
                      · exact M_25 (fun hu => by rw [hu] at c_440; cases c_440)
                      · refine lv_iload hx hb d_Mod_seats_139 (lv_at hl 0 rfl) ?_
                        refine lv_iload hx hb d_Mod_seats_141 (lv_at hl 8 rfl) ?_
                        refine b_icmp_ge (tgt := 148) hx hb d_Mod_seats_143 (by decide) rfl rfl (fun c_441 => ?_) (fun c_441 => ?_)
                        · exact M_25 (fun _ => c_441)
                        · have hUj : U jy = true := by have := c_440; simpa using this
                          refine lv_iconst (v := 0) hx hb d_Mod_seats_146 (by decide) ?_
                          refine W.eq (g2 := F0 m 147 ls [.int (bi false)]) rfl ?_
                          refine e_z hx hb hr hlk hQ hS d_Mod_seats_147 ?_
                          refine ⟨_, false, rfl, ⟨fun h => absurd h (by decide), fun h => ?_⟩, hP⟩
                          exact absurd (hE.mp h) (CC.late (j := jy) (by omega) hUj c_441)
                exact L_8 (_ + 1) 0 (-1 : Int32) (400 : Int32) (0 : Int32) _ _ _ (Nat.lt_succ_self _) (by omega) kc_0 (fun i hi => absurd hi (by omega)) (Or.inl ⟨kc_m1, fun i hi => absurd hi (by omega)⟩) ⟨fun i hi => absurd hi (by omega), Or.inl ⟨kc_400, fun i hi => absurd hi (by omega)⟩⟩ hP hS (lv_sub hl [3, 4, 5, 6, 7, 8, 9, 2, 1, 0] rfl)
        exact L_3 (_ + 1) (fun j => mk.testBit j && (j != ck)) x5 (-100 : Int32) G _ _ _ (Nat.lt_succ_self _) (by rw [h5, show jx = 10 by omega]) (by have := kc_m100; omega) (fun i hi => hG i (by omega)) (fun i hi h => by simp at h; exact h.1) (by first | (rw [kc_m100]; done) | (rw [kc_m100]; exact Iff.rfl)) hP hS (lv_sub hl [1, 2, 3, 4, 5, 6, 0] rfl)
      · refine lv_aload_n hx hb d_Mod_seats_13 rfl (lv_at hl 0 rfl) ?_
        refine m_gr hx hb hK hown hP 27 (by decide) t_764 d_Mod_seats_14 ?_
        refine lv_iload hx hb d_Mod_seats_17 (lv_at hl 6 rfl) ?_
        refine lv_iload_n hx hb d_Mod_seats_19 rfl (lv_at hl 2 rfl) ?_
        refine lv_iload hx hb d_Mod_seats_20 (lv_at hl 6 rfl) ?_
        refine r_Mod_has hx hb hml hown hK hl.1 hS ⟨Nat.le_of_ble_eq_true rfl, Nat.le_of_ble_eq_true rfl⟩ ⟨Nat.le_of_ble_eq_true rfl, Nat.le_of_ble_eq_true rfl⟩ hxm h6 (by omega) (by omega) d_Mod_seats_22 (Nat.le_of_ble_eq_true rfl) (fun locs hS => ?_)
        have K_642 : ∀ (b_642_0 : Bool), (b_642_0 = true ↔ ((hasN (mk : Int) (jx : Int)) = false ∨ (jx : Int) = (ck : Int))) → W p l e (rl 4) s m args below meth c H locs 0 0 Q (F0 m 39 ls [.int (bi b_642_0), .int x6, .ref (adr 27)]) := by
          intro b_642_0 hb_642_0
          refine m_zst hx hb hK hi hP hS wA_mem 27 (by decide) (jx) h6 (by omega) (show jx < 10 by omega) d_Mod_seats_39 (fun H locs hP hS => ?_)
          have hP : MP D cA adr I (va_up F 27 (upd G (jx) (bi b_642_0))) H := by rw [bx_uu] at hP; exact hP
          refine lv_aload_n hx hb d_Mod_seats_40 rfl (lv_at hl 0 rfl) ?_
          refine m_gr hx hb hK hown hP 27 (by decide) t_764 d_Mod_seats_41 ?_
          refine lv_iload hx hb d_Mod_seats_44 (lv_at hl 6 rfl) ?_
          refine m_zld hx hb hK hP 27 (by decide) (jx) h6 (by omega) (show jx < 10 by omega) d_Mod_seats_46 (fun z_643 ez_643 => ?_)
          have ez_643 : z_643 = bi b_642_0 := by rw [ez_643]; simp [va_up, upd]
          rw [ez_643]
          have K_844 : ∀ (z_844_0 : Int32), z_844_0.toInt = (if b_642_0 = false then (x5.toInt + 1) else x5.toInt) → W p l e (rl 4) s m args below meth c H locs 0 0 Q (F0 m 59 ls [.int z_844_0]) := by
            intro z_844_0 hz_844_0
            refine lv_istore (lv' := [(5, .int z_844_0), (0, .ref (adr 0)), (1, .int xd), (2, .int xm), (3, .int xk), (4, .int v), (6, .int x6)]) hx hb d_Mod_seats_59 hl (by decide) rfl (fun ls hl => ?_)
            refine x_iinc (k := 6) (lv' := fun v_ => [(6, .int v_), (5, .int z_844_0), (0, .ref (adr 0)), (1, .int xd), (2, .int xm), (3, .int xk), (4, .int v)]) hx hb d_Mod_seats_61 hl rfl h6 (by decide) (by omega) (by decide) (fun v_ => rfl) (fun z_845 tz_845 ls hl => ?_)
            refine lv_goto (tgt := 6) hx hb d_Mod_seats_64 (by decide) ?_
            have hbn : b_642_0 = !((fun j => mk.testBit j && (j != ck)) jx) := by
              rw [Bool.eq_iff_iff, hb_642_0, hasN_nat]
              by_cases e1 : jx = ck
              · simp [e1]
              · simp [e1, show ¬ (jx : Int) = (ck : Int) from by omega]
            have hc5 : z_844_0.toInt = cu (jx + 1) (fun j => mk.testBit j && (j != ck)) := by
              show _ = cu jx (fun j => mk.testBit j && (j != ck)) + (if (fun j => mk.testBit j && (j != ck)) jx = true then 1 else 0)
              rw [hz_844_0, ← h5, hbn]; cases (fun j => mk.testBit j && (j != ck)) jx <;> simp
            exact ih_1 (jx + 1) z_844_0 z_845 (upd G (jx) (bi b_642_0)) _ _ _ (by omega) (by omega) hc5 (by omega) (fun i hi => by rcases (by omega : i < jx ∨ i = jx) with q | q; (rw [upd, if_neg (by omega)]; exact hG i q); (rw [q, upd, if_pos rfl, hbn])) hP hS (lv_sub hl [2, 3, 4, 5, 6, 1, 0] rfl)
          refine b_bool_eq (tgt := 55) hx hb d_Mod_seats_47 (by decide) (fun c_846 => ?_) (fun c_846 => ?_)
          · refine lv_iload hx hb d_Mod_seats_55 (lv_at hl 5 rfl) ?_
            refine lv_iconst (v := 1) hx hb d_Mod_seats_57 (by decide) ?_
            refine x_add hx hb d_Mod_seats_58 rfl kc_1 (by omega) (fun z_847 tz_847 => ?_)
            exact K_844 z_847 (by first | omega | (simp [c_846]; done) | (simp [c_846]; omega) | (simp only [decide_eq_true_eq, decide_eq_false_iff_not]; omega))
          · refine lv_iload hx hb d_Mod_seats_50 (lv_at hl 5 rfl) ?_
            refine lv_goto (tgt := 59) hx hb d_Mod_seats_52 (by decide) ?_
            exact K_844 x5 (by first | omega | (simp [c_846]; done) | (simp [c_846]; omega) | (simp only [decide_eq_true_eq, decide_eq_false_iff_not]; omega))
        refine b_bool_eq (tgt := 34) hx hb d_Mod_seats_25 (by decide) (fun c_848 => ?_) (fun c_848 => ?_)
        · refine lv_iconst (v := 1) hx hb d_Mod_seats_34 (by decide) ?_
          refine lv_goto (tgt := 39) hx hb d_Mod_seats_35 (by decide) ?_
          exact K_642 true ⟨fun _ => by first | omega | (simp [c_848]; done) | (simp [c_848]; omega) | (simp only [decide_eq_true_eq, decide_eq_false_iff_not]; omega), fun _ => rfl⟩
        · refine lv_iload hx hb d_Mod_seats_28 (lv_at hl 6 rfl) ?_
          refine lv_iload_n hx hb d_Mod_seats_30 rfl (lv_at hl 3 rfl) ?_
          refine b_icmp_ne (tgt := 38) hx hb d_Mod_seats_31 (by decide) h6 hxk (fun c_849 => ?_) (fun c_849 => ?_)
          · refine lv_iconst (v := 0) hx hb d_Mod_seats_38 (by decide) ?_
            exact K_642 false ⟨fun h => absurd h (by decide), fun h => absurd h (by first | omega | (simp [c_848, c_849]; done) | (simp [c_848, c_849]; omega) | (simp only [decide_eq_true_eq, decide_eq_false_iff_not]; omega))⟩
          · refine lv_iconst (v := 1) hx hb d_Mod_seats_34 (by decide) ?_
            refine lv_goto (tgt := 39) hx hb d_Mod_seats_35 (by decide) ?_
            exact K_642 true ⟨fun _ => by first | omega | (simp [c_848, c_849]; done) | (simp [c_848, c_849]; omega) | (simp only [decide_eq_true_eq, decide_eq_false_iff_not]; omega), fun _ => rfl⟩
  exact L_1 (_ + 1) 0 (0 : Int32) (0 : Int32) (F 27) _ _ _ (Nat.lt_succ_self _) (by omega) kc_0 kc_0 (fun i hi => absurd hi (by omega)) hP hS (lv_sub hl [2, 3, 4, 5, 6, 1, 0] rfl)
