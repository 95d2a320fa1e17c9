/-- a relation's predicate, by its kind -/
def FxK (rs : Nat → Int → Int → Prop) (k a b c : Int) (bl bh : Nat → Int) : Prop :=
  if k = 7 then Fx7 (fun j => a.toNat.testBit j) bl bh else if k = 8 then Fx8 (rs c.toNat) a.toNat b.toNat bl bh else if k = 5 then Fx5 a.toNat b.toNat c bl bh else Hull k.toNat a.toNat b.toNat c.toNat bl bh
theorem FxK_7 {rs : Nat → Int → Int → Prop} {k a b c : Int} (h : k = 7) : FxK rs k a b c = Fx7 (fun j => a.toNat.testBit j) := by funext x y; simp [FxK, h]
theorem FxK_8 {rs : Nat → Int → Int → Prop} {k a b c : Int} (h : k = 8) : FxK rs k a b c = Fx8 (rs c.toNat) a.toNat b.toNat := by funext x y; simp [FxK, h]
theorem FxK_5 {rs : Nat → Int → Int → Prop} {k a b c : Int} (h : k = 5) : FxK rs k a b c = Fx5 a.toNat b.toNat c := by funext x y; simp [FxK, h]
theorem FxK_3 {rs : Nat → Int → Int → Prop} {k a b c : Int} {kk : Nat} (h : k = kk) (h7 : kk < 7) (h5 : kk ≠ 5) : FxK rs k a b c = Hull kk a.toNat b.toNat c.toNat := by
  funext x y
  unfold FxK
  rw [if_neg (by omega), if_neg (by omega), if_neg (by omega), show k.toNat = kk by omega]
/-- what a relation's numbers are -/
def RV (n : Nat) (k a b c : Int) : Prop := (0 ≤ k ∧ k ≤ 8) ∧ (k = 7 → 0 < a ∧ a < 1024 ∧ a.toNat < 2 ^ n) ∧ (k ≠ 7 → (0 ≤ a ∧ a < n) ∧ (0 ≤ b ∧ b < n)) ∧ (k = 5 → -200 ≤ c ∧ c ≤ 200) ∧ (k = 8 → 0 ≤ c ∧ c < 3) ∧ (k ≠ 5 → k ≠ 7 → k ≠ 8 → 0 ≤ c ∧ c < n)
/-- what rows are -/
def RW (F : Nat → Nat → Int32) : Prop := ∀ t, t < 3 → (0 ≤ (F 10 t).toInt ∧ (F 10 t).toInt ≤ 10) ∧ ∀ k : Nat, (k : Int) < (F 10 t).toInt → (-100 ≤ (F 11 (10 * t + k)).toInt ∧ (F 11 (10 * t + k)).toInt ≤ 100) ∧ (-100 ≤ (F 12 (10 * t + k)).toInt ∧ (F 12 (10 * t + k)).toInt ≤ 100)
def rsA (F : Nat → Nat → Int32) (t : Nat) : Int → Int → Prop := rsF F t (F 10 t).toInt.toNat
theorem mk_lt {a n : Nat} (h : a < 2 ^ n) : ∀ j, j < 10 → a.testBit j = true → j < n := by
  intro j _ ht
  by_cases q : j < n
  · exact q
  · have h2 : a < 2 ^ j := Nat.lt_of_lt_of_le h (Nat.pow_le_pow_right (by decide) (by omega))
    rw [Nat.testBit_lt_two_pow h2] at ht
    cases ht
theorem d_Mod_narrowBy_0 : decode b_Mod_narrowBy 0 = .ok (.aload_n 0, 1) := by decide +kernel
theorem d_Mod_narrowBy_1 : decode b_Mod_narrowBy 1 = .ok (.getfield 16, 3) := by decide +kernel
theorem d_Mod_narrowBy_4 : decode b_Mod_narrowBy 4 = .ok (.iload_n 1, 1) := by decide +kernel
theorem d_Mod_narrowBy_5 : decode b_Mod_narrowBy 5 = .ok (.iaload, 1) := by decide +kernel
theorem d_Mod_narrowBy_6 : decode b_Mod_narrowBy 6 = .ok (.istore_n 3, 1) := by decide +kernel
theorem d_Mod_narrowBy_7 : decode b_Mod_narrowBy 7 = .ok (.aload_n 0, 1) := by decide +kernel
theorem d_Mod_narrowBy_8 : decode b_Mod_narrowBy 8 = .ok (.getfield 19, 3) := by decide +kernel
theorem d_Mod_narrowBy_11 : decode b_Mod_narrowBy 11 = .ok (.iload_n 1, 1) := by decide +kernel
theorem d_Mod_narrowBy_12 : decode b_Mod_narrowBy 12 = .ok (.iaload, 1) := by decide +kernel
theorem d_Mod_narrowBy_13 : decode b_Mod_narrowBy 13 = .ok (.istore 4, 2) := by decide +kernel
theorem d_Mod_narrowBy_15 : decode b_Mod_narrowBy 15 = .ok (.aload_n 0, 1) := by decide +kernel
theorem d_Mod_narrowBy_16 : decode b_Mod_narrowBy 16 = .ok (.getfield 22, 3) := by decide +kernel
theorem d_Mod_narrowBy_19 : decode b_Mod_narrowBy 19 = .ok (.iload_n 1, 1) := by decide +kernel
theorem d_Mod_narrowBy_20 : decode b_Mod_narrowBy 20 = .ok (.iaload, 1) := by decide +kernel
theorem d_Mod_narrowBy_21 : decode b_Mod_narrowBy 21 = .ok (.istore 5, 2) := by decide +kernel
theorem d_Mod_narrowBy_23 : decode b_Mod_narrowBy 23 = .ok (.aload_n 0, 1) := by decide +kernel
theorem d_Mod_narrowBy_24 : decode b_Mod_narrowBy 24 = .ok (.getfield 25, 3) := by decide +kernel
theorem d_Mod_narrowBy_27 : decode b_Mod_narrowBy 27 = .ok (.iload_n 1, 1) := by decide +kernel
theorem d_Mod_narrowBy_28 : decode b_Mod_narrowBy 28 = .ok (.iaload, 1) := by decide +kernel
theorem d_Mod_narrowBy_29 : decode b_Mod_narrowBy 29 = .ok (.istore 6, 2) := by decide +kernel
theorem d_Mod_narrowBy_31 : decode b_Mod_narrowBy 31 = .ok (.iload_n 3, 1) := by decide +kernel
theorem d_Mod_narrowBy_32 : decode b_Mod_narrowBy 32 = .ok (.bipush 7, 2) := by decide +kernel
theorem d_Mod_narrowBy_34 : decode b_Mod_narrowBy 34 = .ok (.if_icmp .ne 11, 3) := by decide +kernel
theorem d_Mod_narrowBy_37 : decode b_Mod_narrowBy 37 = .ok (.aload_n 0, 1) := by decide +kernel
theorem d_Mod_narrowBy_38 : decode b_Mod_narrowBy 38 = .ok (.iload_n 2, 1) := by decide +kernel
theorem d_Mod_narrowBy_39 : decode b_Mod_narrowBy 39 = .ok (.iload 4, 2) := by decide +kernel
theorem d_Mod_narrowBy_41 : decode b_Mod_narrowBy 41 = .ok (.invokevirtual 181, 3) := by decide +kernel
theorem d_Mod_narrowBy_44 : decode b_Mod_narrowBy 44 = .ok (.ireturn, 1) := by decide +kernel
theorem d_Mod_narrowBy_45 : decode b_Mod_narrowBy 45 = .ok (.iload_n 3, 1) := by decide +kernel
theorem d_Mod_narrowBy_46 : decode b_Mod_narrowBy 46 = .ok (.bipush 7, 2) := by decide +kernel
theorem d_Mod_narrowBy_48 : decode b_Mod_narrowBy 48 = .ok (.if_icmp .le 15, 3) := by decide +kernel
theorem d_Mod_narrowBy_51 : decode b_Mod_narrowBy 51 = .ok (.aload_n 0, 1) := by decide +kernel
theorem d_Mod_narrowBy_52 : decode b_Mod_narrowBy 52 = .ok (.iload_n 2, 1) := by decide +kernel
theorem d_Mod_narrowBy_53 : decode b_Mod_narrowBy 53 = .ok (.iload 4, 2) := by decide +kernel
theorem d_Mod_narrowBy_55 : decode b_Mod_narrowBy 55 = .ok (.iload 5, 2) := by decide +kernel
theorem d_Mod_narrowBy_57 : decode b_Mod_narrowBy 57 = .ok (.iload 6, 2) := by decide +kernel
theorem d_Mod_narrowBy_59 : decode b_Mod_narrowBy 59 = .ok (.invokevirtual 184, 3) := by decide +kernel
theorem d_Mod_narrowBy_62 : decode b_Mod_narrowBy 62 = .ok (.ireturn, 1) := by decide +kernel
theorem d_Mod_narrowBy_63 : decode b_Mod_narrowBy 63 = .ok (.iload_n 3, 1) := by decide +kernel
theorem d_Mod_narrowBy_64 : decode b_Mod_narrowBy 64 = .ok (.iconst 5, 1) := by decide +kernel
theorem d_Mod_narrowBy_65 : decode b_Mod_narrowBy 65 = .ok (.if_icmp .ne 15, 3) := by decide +kernel
theorem d_Mod_narrowBy_68 : decode b_Mod_narrowBy 68 = .ok (.aload_n 0, 1) := by decide +kernel
theorem d_Mod_narrowBy_69 : decode b_Mod_narrowBy 69 = .ok (.iload_n 2, 1) := by decide +kernel
theorem d_Mod_narrowBy_70 : decode b_Mod_narrowBy 70 = .ok (.iload 4, 2) := by decide +kernel
theorem d_Mod_narrowBy_72 : decode b_Mod_narrowBy 72 = .ok (.iload 5, 2) := by decide +kernel
theorem d_Mod_narrowBy_74 : decode b_Mod_narrowBy 74 = .ok (.iload 6, 2) := by decide +kernel
theorem d_Mod_narrowBy_76 : decode b_Mod_narrowBy 76 = .ok (.invokevirtual 187, 3) := by decide +kernel
theorem d_Mod_narrowBy_79 : decode b_Mod_narrowBy 79 = .ok (.ireturn, 1) := by decide +kernel
theorem d_Mod_narrowBy_80 : decode b_Mod_narrowBy 80 = .ok (.iload 4, 2) := by decide +kernel
theorem d_Mod_narrowBy_82 : decode b_Mod_narrowBy 82 = .ok (.iload 5, 2) := by decide +kernel
theorem d_Mod_narrowBy_84 : decode b_Mod_narrowBy 84 = .ok (.if_icmp .eq 21, 3) := by decide +kernel
theorem d_Mod_narrowBy_87 : decode b_Mod_narrowBy 87 = .ok (.iload 4, 2) := by decide +kernel
theorem d_Mod_narrowBy_89 : decode b_Mod_narrowBy 89 = .ok (.iload 6, 2) := by decide +kernel
theorem d_Mod_narrowBy_91 : decode b_Mod_narrowBy 91 = .ok (.if_icmp .eq 14, 3) := by decide +kernel
theorem d_Mod_narrowBy_94 : decode b_Mod_narrowBy 94 = .ok (.iload 5, 2) := by decide +kernel
theorem d_Mod_narrowBy_96 : decode b_Mod_narrowBy 96 = .ok (.iload 6, 2) := by decide +kernel
theorem d_Mod_narrowBy_98 : decode b_Mod_narrowBy 98 = .ok (.if_icmp .eq 7, 3) := by decide +kernel
theorem d_Mod_narrowBy_101 : decode b_Mod_narrowBy 101 = .ok (.iconst 1, 1) := by decide +kernel
theorem d_Mod_narrowBy_102 : decode b_Mod_narrowBy 102 = .ok (.goto 4, 3) := by decide +kernel
theorem d_Mod_narrowBy_105 : decode b_Mod_narrowBy 105 = .ok (.iconst 0, 1) := by decide +kernel
theorem d_Mod_narrowBy_106 : decode b_Mod_narrowBy 106 = .ok (.istore 7, 2) := by decide +kernel
theorem d_Mod_narrowBy_108 : decode b_Mod_narrowBy 108 = .ok (.iload 7, 2) := by decide +kernel
theorem d_Mod_narrowBy_110 : decode b_Mod_narrowBy 110 = .ok (.ifCond .eq 13, 3) := by decide +kernel
theorem d_Mod_narrowBy_113 : decode b_Mod_narrowBy 113 = .ok (.iload_n 3, 1) := by decide +kernel
theorem d_Mod_narrowBy_114 : decode b_Mod_narrowBy 114 = .ok (.iconst 1, 1) := by decide +kernel
theorem d_Mod_narrowBy_115 : decode b_Mod_narrowBy 115 = .ok (.if_icmp .eq 8, 3) := by decide +kernel
theorem d_Mod_narrowBy_118 : decode b_Mod_narrowBy 118 = .ok (.iload_n 3, 1) := by decide +kernel
theorem d_Mod_narrowBy_119 : decode b_Mod_narrowBy 119 = .ok (.iconst 2, 1) := by decide +kernel
theorem d_Mod_narrowBy_120 : decode b_Mod_narrowBy 120 = .ok (.if_icmp .ne 10, 3) := by decide +kernel
theorem d_Mod_narrowBy_123 : decode b_Mod_narrowBy 123 = .ok (.aload_n 0, 1) := by decide +kernel
theorem d_Mod_narrowBy_124 : decode b_Mod_narrowBy 124 = .ok (.iload_n 1, 1) := by decide +kernel
theorem d_Mod_narrowBy_125 : decode b_Mod_narrowBy 125 = .ok (.iload_n 2, 1) := by decide +kernel
theorem d_Mod_narrowBy_126 : decode b_Mod_narrowBy 126 = .ok (.invokevirtual 190, 3) := by decide +kernel
theorem d_Mod_narrowBy_129 : decode b_Mod_narrowBy 129 = .ok (.ireturn, 1) := by decide +kernel
theorem d_Mod_narrowBy_130 : decode b_Mod_narrowBy 130 = .ok (.iload_n 3, 1) := by decide +kernel
theorem d_Mod_narrowBy_131 : decode b_Mod_narrowBy 131 = .ok (.ifCond .ne 17, 3) := by decide +kernel
theorem d_Mod_narrowBy_134 : decode b_Mod_narrowBy 134 = .ok (.aload_n 0, 1) := by decide +kernel
theorem d_Mod_narrowBy_135 : decode b_Mod_narrowBy 135 = .ok (.iload_n 2, 1) := by decide +kernel
theorem d_Mod_narrowBy_136 : decode b_Mod_narrowBy 136 = .ok (.iload 4, 2) := by decide +kernel
theorem d_Mod_narrowBy_138 : decode b_Mod_narrowBy 138 = .ok (.iload 5, 2) := by decide +kernel
theorem d_Mod_narrowBy_140 : decode b_Mod_narrowBy 140 = .ok (.iload 6, 2) := by decide +kernel
theorem d_Mod_narrowBy_142 : decode b_Mod_narrowBy 142 = .ok (.invokevirtual 193, 3) := by decide +kernel
theorem d_Mod_narrowBy_145 : decode b_Mod_narrowBy 145 = .ok (.goto 44, 3) := by decide +kernel
theorem d_Mod_narrowBy_148 : decode b_Mod_narrowBy 148 = .ok (.iload_n 3, 1) := by decide +kernel
theorem d_Mod_narrowBy_149 : decode b_Mod_narrowBy 149 = .ok (.bipush 6, 2) := by decide +kernel
theorem d_Mod_narrowBy_151 : decode b_Mod_narrowBy 151 = .ok (.if_icmp .ne 17, 3) := by decide +kernel
theorem d_Mod_narrowBy_154 : decode b_Mod_narrowBy 154 = .ok (.aload_n 0, 1) := by decide +kernel
theorem d_Mod_narrowBy_155 : decode b_Mod_narrowBy 155 = .ok (.iload_n 2, 1) := by decide +kernel
theorem d_Mod_narrowBy_156 : decode b_Mod_narrowBy 156 = .ok (.iload 4, 2) := by decide +kernel
theorem d_Mod_narrowBy_158 : decode b_Mod_narrowBy 158 = .ok (.iload 5, 2) := by decide +kernel
theorem d_Mod_narrowBy_160 : decode b_Mod_narrowBy 160 = .ok (.iload 6, 2) := by decide +kernel
theorem d_Mod_narrowBy_162 : decode b_Mod_narrowBy 162 = .ok (.invokevirtual 196, 3) := by decide +kernel
theorem d_Mod_narrowBy_165 : decode b_Mod_narrowBy 165 = .ok (.goto 24, 3) := by decide +kernel
theorem d_Mod_narrowBy_168 : decode b_Mod_narrowBy 168 = .ok (.aload_n 0, 1) := by decide +kernel
theorem d_Mod_narrowBy_169 : decode b_Mod_narrowBy 169 = .ok (.iload_n 2, 1) := by decide +kernel
theorem d_Mod_narrowBy_170 : decode b_Mod_narrowBy 170 = .ok (.iload 4, 2) := by decide +kernel
theorem d_Mod_narrowBy_172 : decode b_Mod_narrowBy 172 = .ok (.iload 5, 2) := by decide +kernel
theorem d_Mod_narrowBy_174 : decode b_Mod_narrowBy 174 = .ok (.iload 6, 2) := by decide +kernel
theorem d_Mod_narrowBy_176 : decode b_Mod_narrowBy 176 = .ok (.iload_n 3, 1) := by decide +kernel
theorem d_Mod_narrowBy_177 : decode b_Mod_narrowBy 177 = .ok (.iconst 3, 1) := by decide +kernel
theorem d_Mod_narrowBy_178 : decode b_Mod_narrowBy 178 = .ok (.if_icmp .ne 7, 3) := by decide +kernel
theorem d_Mod_narrowBy_181 : decode b_Mod_narrowBy 181 = .ok (.iconst 1, 1) := by decide +kernel
theorem d_Mod_narrowBy_182 : decode b_Mod_narrowBy 182 = .ok (.goto 4, 3) := by decide +kernel
theorem d_Mod_narrowBy_185 : decode b_Mod_narrowBy 185 = .ok (.iconst 0, 1) := by decide +kernel
theorem d_Mod_narrowBy_186 : decode b_Mod_narrowBy 186 = .ok (.invokevirtual 199, 3) := by decide +kernel
theorem d_Mod_narrowBy_189 : decode b_Mod_narrowBy 189 = .ok (.ireturn, 1) := by decide +kernel
set_option maxHeartbeats 4000000 in
set_option maxRecDepth 20000 in
theorem k_Mod_narrowBy (l : Launch) (D : va_G) (cA : Nat → ClassId) (adr : Nat → Nat) (hi : wI mN adr) (I : Nat → Int32) (F : Nat → Nat → Int32) (r d nn : Nat) (xr xd : Int32) (ch : Bool) (hxr : xr.toInt = (r : Int)) (hrr : r < 12) (hn : nn ≤ 10) (hd : d < 12) (hxd : xd.toInt = (d : Int)) (hV : RV nn (F 5 r).toInt (F 6 r).toInt (F 7 r).toInt (F 8 r).toInt) (hRW : RW F) (hch : I 20 = bi ch) (hne : Ne nn (bl F d) (bh F d)) (hrg : ∀ k, k < nn → -100 ≤ bl F d k ∧ bh F d k ≤ 100) : Ct l y_Mod_narrowBy b_Mod_narrowBy 8 (some .boolean) 12 D cA [.ref (adr 0), .int xr, .int xd] (fun H => MP D cA adr I F H) (fun r0 H => ∃ (I2 : Nat → Int32) (F2 : Nat → Nat → Int32) (q c2 : Bool), r0 = some (.int (bi q)) ∧ FrD d I I2 F F2 ∧ I2 20 = bi c2 ∧ NOK nn (FxK (rsA F) (F 5 r).toInt (F 6 r).toInt (F 7 r).toInt (F 8 r).toInt) (bl F d) (bh F d) q (bl F2 d) (bh F2 d) ch c2 ∧ MP D cA adr I2 F2 H) (wA mN adr) := by
  refine Ct.mk (by decide) (Nat.le_of_ble_eq_true rfl) ?_
  intro p e s m args below meth c Q H locs ls hx hb hr hml hlk hown hin hK hQ hS hP hl
  have hl : lv_has ls 8 [(0, .ref (adr 0)), (1, .int xr), (2, .int xd)] := hl
  have hown : s.vm.findClass "RangeSheetModel" = some m.cls := hown
  obtain ⟨hV0, hV7, hV1, hV5, hV8, hV3⟩ := hV
  refine lv_aload_n hx hb d_Mod_narrowBy_0 rfl (lv_at hl 0 rfl) ?_
  refine m_gr hx hb hK hown hP 5 (by decide) t_742 d_Mod_narrowBy_1 ?_
  refine lv_iload_n hx hb d_Mod_narrowBy_4 rfl (lv_at hl 1 rfl) ?_
  refine m_ld hx hb hK hP 5 (by decide) (r) hxr (by omega) (show r < 12 by omega) d_Mod_narrowBy_5 (fun z_1 ez_1 => ?_)
  subst ez_1
  refine lv_istore_n (lv' := [(3, .int (F 5 (r))), (0, .ref (adr 0)), (1, .int xr), (2, .int xd)]) hx hb d_Mod_narrowBy_6 rfl hl (by decide) rfl (fun ls hl => ?_)
  refine lv_aload_n hx hb d_Mod_narrowBy_7 rfl (lv_at hl 1 rfl) ?_
  refine m_gr hx hb hK hown hP 6 (by decide) t_743 d_Mod_narrowBy_8 ?_
  refine lv_iload_n hx hb d_Mod_narrowBy_11 rfl (lv_at hl 2 rfl) ?_
  refine m_ld hx hb hK hP 6 (by decide) (r) hxr (by omega) (show r < 12 by omega) d_Mod_narrowBy_12 (fun z_2 ez_2 => ?_)
  subst ez_2
  refine lv_istore (lv' := [(4, .int (F 6 (r))), (3, .int (F 5 (r))), (0, .ref (adr 0)), (1, .int xr), (2, .int xd)]) hx hb d_Mod_narrowBy_13 hl (by decide) rfl (fun ls hl => ?_)
  refine lv_aload_n hx hb d_Mod_narrowBy_15 rfl (lv_at hl 2 rfl) ?_
  refine m_gr hx hb hK hown hP 7 (by decide) t_744 d_Mod_narrowBy_16 ?_
  refine lv_iload_n hx hb d_Mod_narrowBy_19 rfl (lv_at hl 3 rfl) ?_
  refine m_ld hx hb hK hP 7 (by decide) (r) hxr (by omega) (show r < 12 by omega) d_Mod_narrowBy_20 (fun z_3 ez_3 => ?_)
  subst ez_3
  refine lv_istore (lv' := [(5, .int (F 7 (r))), (4, .int (F 6 (r))), (3, .int (F 5 (r))), (0, .ref (adr 0)), (1, .int xr), (2, .int xd)]) hx hb d_Mod_narrowBy_21 hl (by decide) rfl (fun ls hl => ?_)
  refine lv_aload_n hx hb d_Mod_narrowBy_23 rfl (lv_at hl 3 rfl) ?_
  refine m_gr hx hb hK hown hP 8 (by decide) t_745 d_Mod_narrowBy_24 ?_
  refine lv_iload_n hx hb d_Mod_narrowBy_27 rfl (lv_at hl 4 rfl) ?_
  refine m_ld hx hb hK hP 8 (by decide) (r) hxr (by omega) (show r < 12 by omega) d_Mod_narrowBy_28 (fun z_4 ez_4 => ?_)
  subst ez_4
  refine lv_istore (lv' := [(6, .int (F 8 (r))), (5, .int (F 7 (r))), (4, .int (F 6 (r))), (3, .int (F 5 (r))), (0, .ref (adr 0)), (1, .int xr), (2, .int xd)]) hx hb d_Mod_narrowBy_29 hl (by decide) rfl (fun ls hl => ?_)
  refine lv_iload_n hx hb d_Mod_narrowBy_31 rfl (lv_at hl 3 rfl) ?_
  refine lv_bipush (v := 7) hx hb d_Mod_narrowBy_32 (by decide) ?_
  refine b_icmp_ne (tgt := 45) hx hb d_Mod_narrowBy_34 (by decide) rfl kc_7 (fun c_5 => ?_) (fun c_5 => ?_)
  · refine lv_iload_n hx hb d_Mod_narrowBy_45 rfl (lv_at hl 3 rfl) ?_
    refine lv_bipush (v := 7) hx hb d_Mod_narrowBy_46 (by decide) ?_
    refine b_icmp_le (tgt := 63) hx hb d_Mod_narrowBy_48 (by decide) rfl kc_7 (fun c_6 => ?_) (fun c_6 => ?_)
    · have hV1 := hV1 (by omega)
      refine lv_iload_n hx hb d_Mod_narrowBy_63 rfl (lv_at hl 3 rfl) ?_
      refine lv_iconst (v := 5) hx hb d_Mod_narrowBy_64 (by decide) ?_
      refine b_icmp_ne (tgt := 80) hx hb d_Mod_narrowBy_65 (by decide) rfl kc_5 (fun c_7 => ?_) (fun c_7 => ?_)
      · have hV3 := hV3 (by omega) (by omega) (by omega)
        refine lv_iload hx hb d_Mod_narrowBy_80 (lv_at hl 2 rfl) ?_
        refine lv_iload hx hb d_Mod_narrowBy_82 (lv_at hl 1 rfl) ?_
        have K_208 : ∀ (b_208_0 : Bool), (b_208_0 = true ↔ (¬ (F 6 (r)).toInt = (F 7 (r)).toInt ∧ (¬ (F 6 (r)).toInt = (F 8 (r)).toInt ∧ ¬ (F 7 (r)).toInt = (F 8 (r)).toInt))) → W p l e (rl 12) s m args below meth c H locs 0 0 Q (F0 m 106 ls [.int (bi b_208_0)]) := by
          intro b_208_0 hb_208_0
          refine lv_istore (lv' := [(7, .int (bi b_208_0)), (6, .int (F 8 (r))), (5, .int (F 7 (r))), (4, .int (F 6 (r))), (3, .int (F 5 (r))), (0, .ref (adr 0)), (1, .int xr), (2, .int xd)]) hx hb d_Mod_narrowBy_106 hl (by decide) rfl (fun ls hl => ?_)
          refine lv_iload hx hb d_Mod_narrowBy_108 (lv_at hl 0 rfl) ?_
          refine b_bool_eq (tgt := 123) hx hb d_Mod_narrowBy_110 (by decide) (fun c_209 => ?_) (fun c_209 => ?_)
          · refine lv_aload_n hx hb d_Mod_narrowBy_123 rfl (lv_at hl 5 rfl) ?_
            refine lv_iload_n hx hb d_Mod_narrowBy_124 rfl (lv_at hl 6 rfl) ?_
            refine lv_iload_n hx hb d_Mod_narrowBy_125 rfl (lv_at hl 7 rfl) ?_
            refine x_V (As := [.int xr, .int xd]) (rest := []) hx hb hml hown hK (k_Mod_byPairs l D cA adr hi I F r d nn (F 5 r).toInt.toNat (F 6 r).toInt.toNat (F 7 r).toInt.toNat (F 8 r).toInt.toNat xr xd ch hxr hxd hrr hd hn (by omega) (by omega) (by omega) (by omega) (by omega) (by omega) (by omega) (by omega) hch hne hrg) t_952 t_4 t_949 t_951 ts_29 yk_Mod_byPairs ⟨Nat.le_of_ble_eq_true rfl, Nat.le_of_ble_eq_true rfl⟩ (m_rec hK hP) hP rfl hl.1 rfl (Nat.le_of_ble_eq_true rfl) d_Mod_narrowBy_126 ⟨Nat.le_of_ble_eq_true rfl, Nat.le_of_ble_eq_true rfl⟩ hS (fun q h => h) (fun r H locs hq _ hS => ?_)
            obtain ⟨I_210, F_210, q_210, c_210, rfl, hFr_210, h20_210, hN_210, hP⟩ := hq
            refine W.eq (g2 := F0 m 129 ls [.int (bi q_210)]) rfl ?_
            refine e_z hx hb hr hlk hQ hS d_Mod_narrowBy_129 ?_
            refine ⟨I_210, F_210, q_210, c_210, rfl, hFr_210, h20_210, ?_, hP⟩
            rw [FxK_3 (kk := (F 5 r).toInt.toNat) (by omega) (by omega) (by omega)]; exact hN_210
          · refine lv_iload_n hx hb d_Mod_narrowBy_113 rfl (lv_at hl 4 rfl) ?_
            refine lv_iconst (v := 1) hx hb d_Mod_narrowBy_114 (by decide) ?_
            refine b_icmp_eq (tgt := 123) hx hb d_Mod_narrowBy_115 (by decide) rfl kc_1 (fun c_211 => ?_) (fun c_211 => ?_)
            · refine lv_aload_n hx hb d_Mod_narrowBy_123 rfl (lv_at hl 5 rfl) ?_
              refine lv_iload_n hx hb d_Mod_narrowBy_124 rfl (lv_at hl 6 rfl) ?_
              refine lv_iload_n hx hb d_Mod_narrowBy_125 rfl (lv_at hl 7 rfl) ?_
              refine x_V (As := [.int xr, .int xd]) (rest := []) hx hb hml hown hK (k_Mod_byPairs l D cA adr hi I F r d nn (F 5 r).toInt.toNat (F 6 r).toInt.toNat (F 7 r).toInt.toNat (F 8 r).toInt.toNat xr xd ch hxr hxd hrr hd hn (by omega) (by omega) (by omega) (by omega) (by omega) (by omega) (by omega) (by omega) hch hne hrg) t_952 t_4 t_949 t_951 ts_29 yk_Mod_byPairs ⟨Nat.le_of_ble_eq_true rfl, Nat.le_of_ble_eq_true rfl⟩ (m_rec hK hP) hP rfl hl.1 rfl (Nat.le_of_ble_eq_true rfl) d_Mod_narrowBy_126 ⟨Nat.le_of_ble_eq_true rfl, Nat.le_of_ble_eq_true rfl⟩ hS (fun q h => h) (fun r H locs hq _ hS => ?_)
              obtain ⟨I_212, F_212, q_212, c_212, rfl, hFr_212, h20_212, hN_212, hP⟩ := hq
              refine W.eq (g2 := F0 m 129 ls [.int (bi q_212)]) rfl ?_
              refine e_z hx hb hr hlk hQ hS d_Mod_narrowBy_129 ?_
              refine ⟨I_212, F_212, q_212, c_212, rfl, hFr_212, h20_212, ?_, hP⟩
              rw [FxK_3 (kk := (F 5 r).toInt.toNat) (by omega) (by omega) (by omega)]; exact hN_212
            · refine lv_iload_n hx hb d_Mod_narrowBy_118 rfl (lv_at hl 4 rfl) ?_
              refine lv_iconst (v := 2) hx hb d_Mod_narrowBy_119 (by decide) ?_
              refine b_icmp_ne (tgt := 130) hx hb d_Mod_narrowBy_120 (by decide) rfl kc_2 (fun c_213 => ?_) (fun c_213 => ?_)
              · have hap := hb_208_0.mp c_209
                refine lv_iload_n hx hb d_Mod_narrowBy_130 rfl (lv_at hl 4 rfl) ?_
                refine b_if_ne (tgt := 148) hx hb d_Mod_narrowBy_131 (by decide) rfl (fun c_214 => ?_) (fun c_214 => ?_)
                · refine lv_iload_n hx hb d_Mod_narrowBy_148 rfl (lv_at hl 4 rfl) ?_
                  refine lv_bipush (v := 6) hx hb d_Mod_narrowBy_149 (by decide) ?_
                  refine b_icmp_ne (tgt := 168) hx hb d_Mod_narrowBy_151 (by decide) rfl kc_6 (fun c_215 => ?_) (fun c_215 => ?_)
                  · refine lv_aload_n hx hb d_Mod_narrowBy_168 rfl (lv_at hl 5 rfl) ?_
                    refine lv_iload_n hx hb d_Mod_narrowBy_169 rfl (lv_at hl 7 rfl) ?_
                    refine lv_iload hx hb d_Mod_narrowBy_170 (lv_at hl 3 rfl) ?_
                    refine lv_iload hx hb d_Mod_narrowBy_172 (lv_at hl 2 rfl) ?_
                    refine lv_iload hx hb d_Mod_narrowBy_174 (lv_at hl 1 rfl) ?_
                    refine lv_iload_n hx hb d_Mod_narrowBy_176 rfl (lv_at hl 4 rfl) ?_
                    refine lv_iconst (v := 3) hx hb d_Mod_narrowBy_177 (by decide) ?_
                    have K_416 : ∀ (b_416_0 : Bool), (b_416_0 = true ↔ (F 5 (r)).toInt = 3) → W p l e (rl 12) s m args below meth c H locs 0 0 Q (F0 m 186 ls [.int (bi b_416_0), .int (F 8 (r)), .int (F 7 (r)), .int (F 6 (r)), .int xd, .ref (adr 0)]) := by
                      intro b_416_0 hb_416_0
                      refine x_V (As := [.int xd, .int (F 6 (r)), .int (F 7 (r)), .int (F 8 (r)), .int (bi b_416_0)]) (rest := []) hx hb hml hown hK (k_Mod_extreme l D cA adr hi I F d nn (F 6 r).toInt.toNat (F 7 r).toInt.toNat (F 8 r).toInt.toNat xd (F 6 r) (F 7 r) (F 8 r) ch b_416_0 hn hd hxd (by omega) (by omega) (by omega) (by omega) (by omega) (by omega) (by omega) (by omega) (by omega) hch hne hrg) t_971 t_4 t_968 t_970 ts_32 yk_Mod_extreme ⟨Nat.le_of_ble_eq_true rfl, Nat.le_of_ble_eq_true rfl⟩ (m_rec hK hP) hP rfl hl.1 rfl (Nat.le_of_ble_eq_true rfl) d_Mod_narrowBy_186 ⟨Nat.le_of_ble_eq_true rfl, Nat.le_of_ble_eq_true rfl⟩ hS (fun q h => h) (fun r H locs hq _ hS => ?_)
                      obtain ⟨I_417, F_417, q_417, c_417, rfl, hFr_417, h20_417, hN_417, hP⟩ := hq
                      refine W.eq (g2 := F0 m 189 ls [.int (bi q_417)]) rfl ?_
                      refine e_z hx hb hr hlk hQ hS d_Mod_narrowBy_189 ?_
                      have hk34 : (F 5 r).toInt = (kE b_416_0 : Nat) := by cases hq : b_416_0; (have := mt hb_416_0.mpr (by rw [hq]; decide); show (F 5 r).toInt = ((4 : Nat) : Int); omega); (have := hb_416_0.mp hq; show (F 5 r).toInt = ((3 : Nat) : Int); omega)
                      refine ⟨I_417, F_417, q_417, c_417, rfl, hFr_417, h20_417, ?_, hP⟩
                      rw [FxK_3 (kk := kE b_416_0) hk34 (by cases b_416_0 <;> decide) (by cases b_416_0 <;> decide)]; exact hN_417
                    refine b_icmp_ne (tgt := 185) hx hb d_Mod_narrowBy_178 (by decide) rfl kc_3 (fun c_418 => ?_) (fun c_418 => ?_)
                    · refine lv_iconst (v := 0) hx hb d_Mod_narrowBy_185 (by decide) ?_
                      exact K_416 false ⟨fun h => absurd h (by decide), fun h => absurd h (by omega)⟩
                    · refine lv_iconst (v := 1) hx hb d_Mod_narrowBy_181 (by decide) ?_
                      refine lv_goto (tgt := 186) hx hb d_Mod_narrowBy_182 (by decide) ?_
                      exact K_416 true ⟨fun _ => by omega, fun _ => rfl⟩
                  · refine lv_aload_n hx hb d_Mod_narrowBy_154 rfl (lv_at hl 5 rfl) ?_
                    refine lv_iload_n hx hb d_Mod_narrowBy_155 rfl (lv_at hl 7 rfl) ?_
                    refine lv_iload hx hb d_Mod_narrowBy_156 (lv_at hl 3 rfl) ?_
                    refine lv_iload hx hb d_Mod_narrowBy_158 (lv_at hl 2 rfl) ?_
                    refine lv_iload hx hb d_Mod_narrowBy_160 (lv_at hl 1 rfl) ?_
                    refine x_V (As := [.int xd, .int (F 6 (r)), .int (F 7 (r)), .int (F 8 (r))]) (rest := []) hx hb hml hown hK (k_Mod_implies l D cA adr hi I F d nn (F 6 r).toInt.toNat (F 7 r).toInt.toNat (F 8 r).toInt.toNat xd (F 6 r) (F 7 r) (F 8 r) ch hn hd hxd (by omega) (by omega) (by omega) (by omega) (by omega) (by omega) (by omega) (by omega) (by omega) hch hne hrg) t_967 t_4 t_964 t_966 ts_31 yk_Mod_implies ⟨Nat.le_of_ble_eq_true rfl, Nat.le_of_ble_eq_true rfl⟩ (m_rec hK hP) hP rfl hl.1 rfl (Nat.le_of_ble_eq_true rfl) d_Mod_narrowBy_162 ⟨Nat.le_of_ble_eq_true rfl, Nat.le_of_ble_eq_true rfl⟩ hS (fun q h => h) (fun r H locs hq _ hS => ?_)
                    obtain ⟨I_419, F_419, q_419, c_419, rfl, hFr_419, h20_419, hN_419, hP⟩ := hq
                    refine W.eq (g2 := F0 m 165 ls [.int (bi q_419)]) rfl ?_
                    refine lv_goto (tgt := 189) hx hb d_Mod_narrowBy_165 (by decide) ?_
                    refine e_z hx hb hr hlk hQ hS d_Mod_narrowBy_189 ?_
                    refine ⟨I_419, F_419, q_419, c_419, rfl, hFr_419, h20_419, ?_, hP⟩
                    rw [FxK_3 (kk := 6) (by omega) (by decide) (by decide)]; exact hN_419
                · refine lv_aload_n hx hb d_Mod_narrowBy_134 rfl (lv_at hl 5 rfl) ?_
                  refine lv_iload_n hx hb d_Mod_narrowBy_135 rfl (lv_at hl 7 rfl) ?_
                  refine lv_iload hx hb d_Mod_narrowBy_136 (lv_at hl 3 rfl) ?_
                  refine lv_iload hx hb d_Mod_narrowBy_138 (lv_at hl 2 rfl) ?_
                  refine lv_iload hx hb d_Mod_narrowBy_140 (lv_at hl 1 rfl) ?_
                  refine x_V (As := [.int xd, .int (F 6 (r)), .int (F 7 (r)), .int (F 8 (r))]) (rest := []) hx hb hml hown hK (k_Mod_sum l D cA adr hi I F d nn (F 6 r).toInt.toNat (F 7 r).toInt.toNat (F 8 r).toInt.toNat xd (F 6 r) (F 7 r) (F 8 r) ch hn hd hxd (by omega) (by omega) (by omega) (by omega) (by omega) (by omega) (by omega) (by omega) (by omega) hch hne hrg) t_963 t_4 t_960 t_962 ts_30 yk_Mod_sum ⟨Nat.le_of_ble_eq_true rfl, Nat.le_of_ble_eq_true rfl⟩ (m_rec hK hP) hP rfl hl.1 rfl (Nat.le_of_ble_eq_true rfl) d_Mod_narrowBy_142 ⟨Nat.le_of_ble_eq_true rfl, Nat.le_of_ble_eq_true rfl⟩ hS (fun q h => h) (fun r H locs hq _ hS => ?_)
                  obtain ⟨I_420, F_420, q_420, c_420, rfl, hFr_420, h20_420, hN_420, hP⟩ := hq
                  refine W.eq (g2 := F0 m 145 ls [.int (bi q_420)]) rfl ?_
                  refine lv_goto (tgt := 189) hx hb d_Mod_narrowBy_145 (by decide) ?_
                  refine e_z hx hb hr hlk hQ hS d_Mod_narrowBy_189 ?_
                  refine ⟨I_420, F_420, q_420, c_420, rfl, hFr_420, h20_420, ?_, hP⟩
                  rw [FxK_3 (kk := 0) (by omega) (by decide) (by decide)]; exact hN_420
              · refine lv_aload_n hx hb d_Mod_narrowBy_123 rfl (lv_at hl 5 rfl) ?_
                refine lv_iload_n hx hb d_Mod_narrowBy_124 rfl (lv_at hl 6 rfl) ?_
                refine lv_iload_n hx hb d_Mod_narrowBy_125 rfl (lv_at hl 7 rfl) ?_
                refine x_V (As := [.int xr, .int xd]) (rest := []) hx hb hml hown hK (k_Mod_byPairs l D cA adr hi I F r d nn (F 5 r).toInt.toNat (F 6 r).toInt.toNat (F 7 r).toInt.toNat (F 8 r).toInt.toNat xr xd ch hxr hxd hrr hd hn (by omega) (by omega) (by omega) (by omega) (by omega) (by omega) (by omega) (by omega) hch hne hrg) t_952 t_4 t_949 t_951 ts_29 yk_Mod_byPairs ⟨Nat.le_of_ble_eq_true rfl, Nat.le_of_ble_eq_true rfl⟩ (m_rec hK hP) hP rfl hl.1 rfl (Nat.le_of_ble_eq_true rfl) d_Mod_narrowBy_126 ⟨Nat.le_of_ble_eq_true rfl, Nat.le_of_ble_eq_true rfl⟩ hS (fun q h => h) (fun r H locs hq _ hS => ?_)
                obtain ⟨I_421, F_421, q_421, c_421, rfl, hFr_421, h20_421, hN_421, hP⟩ := hq
                refine W.eq (g2 := F0 m 129 ls [.int (bi q_421)]) rfl ?_
                refine e_z hx hb hr hlk hQ hS d_Mod_narrowBy_129 ?_
                refine ⟨I_421, F_421, q_421, c_421, rfl, hFr_421, h20_421, ?_, hP⟩
                rw [FxK_3 (kk := (F 5 r).toInt.toNat) (by omega) (by omega) (by omega)]; exact hN_421
        refine b_icmp_eq (tgt := 105) hx hb d_Mod_narrowBy_84 (by decide) rfl rfl (fun c_422 => ?_) (fun c_422 => ?_)
        · refine lv_iconst (v := 0) hx hb d_Mod_narrowBy_105 (by decide) ?_
          exact K_208 false ⟨fun h => absurd h (by decide), fun h => absurd h (by omega)⟩
        · refine lv_iload hx hb d_Mod_narrowBy_87 (lv_at hl 2 rfl) ?_
          refine lv_iload hx hb d_Mod_narrowBy_89 (lv_at hl 0 rfl) ?_
          refine b_icmp_eq (tgt := 105) hx hb d_Mod_narrowBy_91 (by decide) rfl rfl (fun c_423 => ?_) (fun c_423 => ?_)
          · refine lv_iconst (v := 0) hx hb d_Mod_narrowBy_105 (by decide) ?_
            exact K_208 false ⟨fun h => absurd h (by decide), fun h => absurd h (by omega)⟩
          · refine lv_iload hx hb d_Mod_narrowBy_94 (lv_at hl 1 rfl) ?_
            refine lv_iload hx hb d_Mod_narrowBy_96 (lv_at hl 0 rfl) ?_
            refine b_icmp_eq (tgt := 105) hx hb d_Mod_narrowBy_98 (by decide) rfl rfl (fun c_424 => ?_) (fun c_424 => ?_)
            · refine lv_iconst (v := 0) hx hb d_Mod_narrowBy_105 (by decide) ?_
              exact K_208 false ⟨fun h => absurd h (by decide), fun h => absurd h (by omega)⟩
            · refine lv_iconst (v := 1) hx hb d_Mod_narrowBy_101 (by decide) ?_
              refine lv_goto (tgt := 106) hx hb d_Mod_narrowBy_102 (by decide) ?_
              exact K_208 true ⟨fun _ => by omega, fun _ => rfl⟩
      · have hV5 := hV5 (by omega)
        refine lv_aload_n hx hb d_Mod_narrowBy_68 rfl (lv_at hl 4 rfl) ?_
        refine lv_iload_n hx hb d_Mod_narrowBy_69 rfl (lv_at hl 6 rfl) ?_
        refine lv_iload hx hb d_Mod_narrowBy_70 (lv_at hl 2 rfl) ?_
        refine lv_iload hx hb d_Mod_narrowBy_72 (lv_at hl 1 rfl) ?_
        refine lv_iload hx hb d_Mod_narrowBy_74 (lv_at hl 0 rfl) ?_
        refine x_V (As := [.int xd, .int (F 6 (r)), .int (F 7 (r)), .int (F 8 (r))]) (rest := []) hx hb hml hown hK (k_Mod_atMost l D cA adr hi I F d nn (F 6 r).toInt.toNat (F 7 r).toInt.toNat xd (F 6 r) (F 7 r) (F 8 r) ch hn hd hxd (by omega) (by omega) (by omega) (by omega) (by omega) hch hne hrg) t_948 t_4 t_945 t_947 ts_28 yk_Mod_atMost ⟨Nat.le_of_ble_eq_true rfl, Nat.le_of_ble_eq_true rfl⟩ (m_rec hK hP) hP rfl hl.1 rfl (Nat.le_of_ble_eq_true rfl) d_Mod_narrowBy_76 ⟨Nat.le_of_ble_eq_true rfl, Nat.le_of_ble_eq_true rfl⟩ hS (fun q h => h) (fun r H locs hq _ hS => ?_)
        obtain ⟨I_425, F_425, q_425, c_425, rfl, hFr_425, h20_425, hN_425, hP⟩ := hq
        refine W.eq (g2 := F0 m 79 ls [.int (bi q_425)]) rfl ?_
        refine e_z hx hb hr hlk hQ hS d_Mod_narrowBy_79 ?_
        refine ⟨I_425, F_425, q_425, c_425, rfl, hFr_425, h20_425, ?_, hP⟩
        rw [FxK_5 (by omega)]; exact hN_425
    · have hV8 := hV8 (by omega); have hV1 := hV1 (by omega)
      have hrws := hRW (F 8 r).toInt.toNat (by omega); have hcnt : (F 10 (F 8 r).toInt.toNat).toInt = ((F 10 (F 8 r).toInt.toNat).toInt.toNat : Int) := by have := hrws.1; omega
      refine lv_aload_n hx hb d_Mod_narrowBy_51 rfl (lv_at hl 4 rfl) ?_
      refine lv_iload_n hx hb d_Mod_narrowBy_52 rfl (lv_at hl 6 rfl) ?_
      refine lv_iload hx hb d_Mod_narrowBy_53 (lv_at hl 2 rfl) ?_
      refine lv_iload hx hb d_Mod_narrowBy_55 (lv_at hl 1 rfl) ?_
      refine lv_iload hx hb d_Mod_narrowBy_57 (lv_at hl 0 rfl) ?_
      refine x_V (As := [.int xd, .int (F 6 (r)), .int (F 7 (r)), .int (F 8 (r))]) (rest := []) hx hb hml hown hK (k_Mod_lookup l D cA adr hi I F d nn (F 6 r).toInt.toNat (F 7 r).toInt.toNat (F 8 r).toInt.toNat (F 10 (F 8 r).toInt.toNat).toInt.toNat xd (F 6 r) (F 7 r) (F 8 r) ch hn hd hxd (by omega) (by omega) (by omega) (by omega) hcnt (by omega) (by omega) (by omega) (fun k hk => hrws.2 k (by omega)) hch hne hrg) t_936 t_4 t_933 t_935 ts_25 yk_Mod_lookup ⟨Nat.le_of_ble_eq_true rfl, Nat.le_of_ble_eq_true rfl⟩ (m_rec hK hP) hP rfl hl.1 rfl (Nat.le_of_ble_eq_true rfl) d_Mod_narrowBy_59 ⟨Nat.le_of_ble_eq_true rfl, Nat.le_of_ble_eq_true rfl⟩ hS (fun q h => h) (fun r H locs hq _ hS => ?_)
      obtain ⟨I_426, F_426, q_426, c_426, rfl, hFr_426, h20_426, hN_426, hP⟩ := hq
      refine W.eq (g2 := F0 m 62 ls [.int (bi q_426)]) rfl ?_
      refine e_z hx hb hr hlk hQ hS d_Mod_narrowBy_62 ?_
      refine ⟨I_426, F_426, q_426, c_426, rfl, hFr_426, h20_426, ?_, hP⟩
      rw [FxK_8 (by omega)]; exact hN_426
  · have hV7 := hV7 c_5
    refine lv_aload_n hx hb d_Mod_narrowBy_37 rfl (lv_at hl 4 rfl) ?_
    refine lv_iload_n hx hb d_Mod_narrowBy_38 rfl (lv_at hl 6 rfl) ?_
    refine lv_iload hx hb d_Mod_narrowBy_39 (lv_at hl 2 rfl) ?_
    refine x_V (As := [.int xd, .int (F 6 (r))]) (rest := []) hx hb hml hown hK (k_Mod_different l D cA adr hi I F d nn (F 6 r).toInt.toNat xd (F 6 r) ch hn hd hxd (by omega) (mk_lt hV7.2.2) hch hne hrg) t_928 t_4 t_925 t_927 ts_23 yk_Mod_different ⟨Nat.le_of_ble_eq_true rfl, Nat.le_of_ble_eq_true rfl⟩ (m_rec hK hP) hP rfl hl.1 rfl (Nat.le_of_ble_eq_true rfl) d_Mod_narrowBy_41 ⟨Nat.le_of_ble_eq_true rfl, Nat.le_of_ble_eq_true rfl⟩ hS (fun q h => h) (fun r H locs hq _ hS => ?_)
    obtain ⟨I_427, F_427, q_427, c_427, rfl, hFr_427, h20_427, hN_427, hP⟩ := hq
    refine W.eq (g2 := F0 m 44 ls [.int (bi q_427)]) rfl ?_
    refine e_z hx hb hr hlk hQ hS d_Mod_narrowBy_44 ?_
    refine ⟨I_427, F_427, q_427, c_427, rfl, hFr_427, h20_427, ?_, hP⟩
    rw [FxK_7 (by omega)]; exact hN_427
