/-! the component: boxes -/
def BP (cA : Nat → ClassId) (adr : Nat → Nat) (cn : Nat → va_E) (b : Nat) (f g : Nat → Int32) (c : Bool) : Prop := cn b = .inr (2, [.ref (adr (b + 1)), .ref (adr (b + 2)), .int (bi c)]) ∧ cn (b + 1) = .inl (cA 0, 10, .inl f) ∧ cn (b + 2) = .inl (cA 0, 10, .inl g)
def FrB (b : Nat) (cn cn' : Nat → va_E) : Prop := ∀ k, k ≠ b → k ≠ b + 1 → k ≠ b + 2 → cn' k = cn k
def BM (N : List Nat) (b : Nat) : Prop := b ∈ N ∧ b + 1 ∈ N ∧ b + 2 ∈ N
theorem FrB.rf {b : Nat} {cn : Nat → va_E} : FrB b cn cn := fun _ _ _ _ => rfl
theorem FrB.tr {b : Nat} {cn cn' cn'' : Nat → va_E} (h : FrB b cn cn') (g : FrB b cn' cn'') : FrB b cn cn'' := fun k a1 a2 a3 => (g k a1 a2 a3).trans (h k a1 a2 a3)
theorem BP.fr {cA : Nat → ClassId} {adr : Nat → Nat} {cn cn' : Nat → va_E} {b a : Nat} {f g : Nat → Int32} {c : Bool} (h : BP cA adr cn a f g c) (hf : FrB b cn cn') (h1 : a + 2 < b ∨ b + 2 < a) : BP cA adr cn' a f g c :=
  ⟨(hf a (by omega) (by omega) (by omega)).trans h.1, (hf (a + 1) (by omega) (by omega) (by omega)).trans h.2.1, (hf (a + 2) (by omega) (by omega) (by omega)).trans h.2.2⟩
/-- the box's ranges -/
def tI (f : Nat → Int32) : Nat → Int := fun k => (f k).toInt
theorem tI_cut {f g : Nat → Int32} {n k : Nat} {lo hh : Int32} {a b : Int} (h1 : lo.toInt = max (f k).toInt a) (h2 : hh.toInt = min (g k).toInt b) : Cutb n (tI f) (tI g) k a b (tI (upd f k lo)) (tI (upd g k hh)) := by
  refine ⟨fun j hj => ?_, fun j hj => ?_⟩
  · by_cases e : j = k
    · subst e; simp [tI, upd, h1]
    · simp [tI, upd, e]
  · by_cases e : j = k
    · subst e; simp [tI, upd, h2]
    · simp [tI, upd, e]
theorem d_Box_cut_0 : decode b_Box_cut 0 = .ok (.aload_n 0, 1) := by decide +kernel
theorem d_Box_cut_1 : decode b_Box_cut 1 = .ok (.dup, 1) := by decide +kernel
theorem d_Box_cut_2 : decode b_Box_cut 2 = .ok (.getfield 24, 3) := by decide +kernel
theorem d_Box_cut_5 : decode b_Box_cut 5 = .ok (.iload_n 2, 1) := by decide +kernel
theorem d_Box_cut_6 : decode b_Box_cut 6 = .ok (.aload_n 0, 1) := by decide +kernel
theorem d_Box_cut_7 : decode b_Box_cut 7 = .ok (.getfield 9, 3) := by decide +kernel
theorem d_Box_cut_10 : decode b_Box_cut 10 = .ok (.iload_n 1, 1) := by decide +kernel
theorem d_Box_cut_11 : decode b_Box_cut 11 = .ok (.iaload, 1) := by decide +kernel
theorem d_Box_cut_12 : decode b_Box_cut 12 = .ok (.if_icmp .gt 13, 3) := by decide +kernel
theorem d_Box_cut_15 : decode b_Box_cut 15 = .ok (.iload_n 3, 1) := by decide +kernel
theorem d_Box_cut_16 : decode b_Box_cut 16 = .ok (.aload_n 0, 1) := by decide +kernel
theorem d_Box_cut_17 : decode b_Box_cut 17 = .ok (.getfield 15, 3) := by decide +kernel
theorem d_Box_cut_20 : decode b_Box_cut 20 = .ok (.iload_n 1, 1) := by decide +kernel
theorem d_Box_cut_21 : decode b_Box_cut 21 = .ok (.iaload, 1) := by decide +kernel
theorem d_Box_cut_22 : decode b_Box_cut 22 = .ok (.if_icmp .ge 7, 3) := by decide +kernel
theorem d_Box_cut_25 : decode b_Box_cut 25 = .ok (.iconst 1, 1) := by decide +kernel
theorem d_Box_cut_26 : decode b_Box_cut 26 = .ok (.goto 4, 3) := by decide +kernel
theorem d_Box_cut_29 : decode b_Box_cut 29 = .ok (.iconst 0, 1) := by decide +kernel
theorem d_Box_cut_30 : decode b_Box_cut 30 = .ok (.ior, 1) := by decide +kernel
theorem d_Box_cut_31 : decode b_Box_cut 31 = .ok (.putfield 24, 3) := by decide +kernel
theorem d_Box_cut_34 : decode b_Box_cut 34 = .ok (.aload_n 0, 1) := by decide +kernel
theorem d_Box_cut_35 : decode b_Box_cut 35 = .ok (.getfield 9, 3) := by decide +kernel
theorem d_Box_cut_38 : decode b_Box_cut 38 = .ok (.iload_n 1, 1) := by decide +kernel
theorem d_Box_cut_39 : decode b_Box_cut 39 = .ok (.aload_n 0, 1) := by decide +kernel
theorem d_Box_cut_40 : decode b_Box_cut 40 = .ok (.getfield 9, 3) := by decide +kernel
theorem d_Box_cut_43 : decode b_Box_cut 43 = .ok (.iload_n 1, 1) := by decide +kernel
theorem d_Box_cut_44 : decode b_Box_cut 44 = .ok (.iaload, 1) := by decide +kernel
theorem d_Box_cut_45 : decode b_Box_cut 45 = .ok (.iload_n 2, 1) := by decide +kernel
theorem d_Box_cut_46 : decode b_Box_cut 46 = .ok (.invokestatic 28, 3) := by decide +kernel
theorem d_Box_cut_49 : decode b_Box_cut 49 = .ok (.iastore, 1) := by decide +kernel
theorem d_Box_cut_50 : decode b_Box_cut 50 = .ok (.aload_n 0, 1) := by decide +kernel
theorem d_Box_cut_51 : decode b_Box_cut 51 = .ok (.getfield 15, 3) := by decide +kernel
theorem d_Box_cut_54 : decode b_Box_cut 54 = .ok (.iload_n 1, 1) := by decide +kernel
theorem d_Box_cut_55 : decode b_Box_cut 55 = .ok (.aload_n 0, 1) := by decide +kernel
theorem d_Box_cut_56 : decode b_Box_cut 56 = .ok (.getfield 15, 3) := by decide +kernel
theorem d_Box_cut_59 : decode b_Box_cut 59 = .ok (.iload_n 1, 1) := by decide +kernel
theorem d_Box_cut_60 : decode b_Box_cut 60 = .ok (.iaload, 1) := by decide +kernel
theorem d_Box_cut_61 : decode b_Box_cut 61 = .ok (.iload_n 3, 1) := by decide +kernel
theorem d_Box_cut_62 : decode b_Box_cut 62 = .ok (.invokestatic 34, 3) := by decide +kernel
theorem d_Box_cut_65 : decode b_Box_cut 65 = .ok (.iastore, 1) := by decide +kernel
theorem d_Box_cut_66 : decode b_Box_cut 66 = .ok (.aload_n 0, 1) := by decide +kernel
theorem d_Box_cut_67 : decode b_Box_cut 67 = .ok (.getfield 9, 3) := by decide +kernel
theorem d_Box_cut_70 : decode b_Box_cut 70 = .ok (.iload_n 1, 1) := by decide +kernel
theorem d_Box_cut_71 : decode b_Box_cut 71 = .ok (.iaload, 1) := by decide +kernel
theorem d_Box_cut_72 : decode b_Box_cut 72 = .ok (.aload_n 0, 1) := by decide +kernel
theorem d_Box_cut_73 : decode b_Box_cut 73 = .ok (.getfield 15, 3) := by decide +kernel
theorem d_Box_cut_76 : decode b_Box_cut 76 = .ok (.iload_n 1, 1) := by decide +kernel
theorem d_Box_cut_77 : decode b_Box_cut 77 = .ok (.iaload, 1) := by decide +kernel
theorem d_Box_cut_78 : decode b_Box_cut 78 = .ok (.if_icmp .gt 7, 3) := by decide +kernel
theorem d_Box_cut_81 : decode b_Box_cut 81 = .ok (.iconst 1, 1) := by decide +kernel
theorem d_Box_cut_82 : decode b_Box_cut 82 = .ok (.goto 4, 3) := by decide +kernel
theorem d_Box_cut_85 : decode b_Box_cut 85 = .ok (.iconst 0, 1) := by decide +kernel
theorem d_Box_cut_86 : decode b_Box_cut 86 = .ok (.ireturn, 1) := by decide +kernel
set_option maxHeartbeats 4000000 in
set_option maxRecDepth 20000 in
theorem k_Box_cut (l : Launch) (D : va_G) (cA : Nat → ClassId) (adr : Nat → Nat) (N : List Nat) (hi : wI N adr) (cn : Nat → va_E) (b : Nat) (f g : Nat → Int32) (ch : Bool) (hB : BP cA adr cn b f g ch) (hN : BM N b) (kx : Nat) (xk xf xt : Int32) (hxk : xk.toInt = (kx : Int)) (hk : kx < 10) : Ct l y_Box_cut b_Box_cut 4 (some .boolean) 3 D cA [.ref (adr b), .int xk, .int xf, .int xt] (fun H => va_P D classes (wl N adr cn) H) (fun r H => ∃ (cn2 : Nat → va_E) (lo hh : Int32), lo.toInt = max (f kx).toInt xf.toInt ∧ hh.toInt = min (g kx).toInt xt.toInt ∧ r = some (.int (bi (decide (lo.toInt ≤ hh.toInt)))) ∧ FrB b cn cn2 ∧ BP cA adr cn2 b (upd f kx lo) (upd g kx hh) (ch || decide ((f kx).toInt < xf.toInt ∨ xt.toInt < (g kx).toInt)) ∧ va_P D classes (wl N adr cn2) H) (wA N adr) := by
  refine Ct.mk (by decide) (Nat.le_of_ble_eq_true rfl) ?_
  intro p e s m args below meth c Q H locs ls hx hb hr hml hlk hown hin hK hQ hS hP hl
  have hl : lv_has ls 4 [(0, .ref (adr b)), (1, .int xk), (2, .int xf), (3, .int xt)] := hl
  have hown : s.vm.findClass "RangeSheet$Box" = some m.cls := hown
  refine lv_aload_n hx hb d_Box_cut_0 rfl (lv_at hl 0 rfl) ?_
  refine lv_dup hx hb d_Box_cut_1 rfl ?_
  refine w_gf hx hb hK i_Box hown hP hN.1 hB.1 rfl 2 (by decide) t_49 rfl rfl d_Box_cut_2 ?_
  refine lv_iload_n hx hb d_Box_cut_5 rfl (lv_at hl 2 rfl) ?_
  refine lv_aload_n hx hb d_Box_cut_6 rfl (lv_at hl 0 rfl) ?_
  refine w_gf hx hb hK i_Box hown hP hN.1 hB.1 rfl 0 (by decide) t_37 rfl rfl d_Box_cut_7 ?_
  refine lv_iload_n hx hb d_Box_cut_10 rfl (lv_at hl 1 rfl) ?_
  refine w_ld hx hb hK hP hN.2.1 hB.2.1 (kx) hxk (by omega) (show kx < 10 by omega) d_Box_cut_11 (fun z_1 ez_1 => ?_)
  subst ez_1
  have K_202 : ∀ (b_202_0 : Bool), (b_202_0 = true ↔ ((f kx).toInt < xf.toInt ∨ xt.toInt < (g kx).toInt)) → W p l e (rl 3) s m args below meth c H locs 0 0 Q (F0 m 30 ls [.int (bi b_202_0), .int (bi ch), .ref (adr b)]) := by
    intro b_202_0 hb_202_0
    refine x_or hx hb d_Box_cut_30 ?_
    refine w_pf hx hb hK i_Box t_Box t_Box_ok n_Box hown hi hP hS wA_mem hN.1 hB.1 rfl 2 (by decide) t_49 rfl rfl (bi_nar _) (bi_fit _) rfl d_Box_cut_31 (fun H locs hP hS => ?_)
    obtain ⟨cn_203, ecn_203⟩ : ∃ q : Nat → va_E, q = va_up cn b (.inr (2, [.ref (adr (b + 1)), .ref (adr (b + 2)), .int (bi (ch || b_202_0))])) := ⟨_, rfl⟩
    have hP : va_P D classes (wl N adr cn_203) H := by rw [ecn_203]; exact hP
    have ho_203_204 : cn_203 b = .inr (2, [.ref (adr (b + 1)), .ref (adr (b + 2)), .int (bi (ch || b_202_0))]) := by rw [ecn_203]; exact va_up_self _ _ _
    have ho_203_205 : cn_203 (b + 1) = .inl (cA 0, 10, .inl f) := by rw [ecn_203, va_up_ne _ _ (by omega)]; exact hB.2.1
    have ho_203_206 : cn_203 (b + 2) = .inl (cA 0, 10, .inl g) := by rw [ecn_203, va_up_ne _ _ (by omega)]; exact hB.2.2
    have hfr_203 : ∀ k, k ≠ b → k ≠ b + 1 → k ≠ b + 2 → cn_203 k = cn k := fun k a1 a2 a3 => (congrFun ecn_203 k).trans ((va_up_ne _ _ (by omega)).trans rfl)
    refine lv_aload_n hx hb d_Box_cut_34 rfl (lv_at hl 0 rfl) ?_
    refine w_gf hx hb hK i_Box hown hP hN.1 ho_203_204 rfl 0 (by decide) t_37 rfl rfl d_Box_cut_35 ?_
    refine lv_iload_n hx hb d_Box_cut_38 rfl (lv_at hl 1 rfl) ?_
    refine lv_aload_n hx hb d_Box_cut_39 rfl (lv_at hl 0 rfl) ?_
    refine w_gf hx hb hK i_Box hown hP hN.1 ho_203_204 rfl 0 (by decide) t_37 rfl rfl d_Box_cut_40 ?_
    refine lv_iload_n hx hb d_Box_cut_43 rfl (lv_at hl 1 rfl) ?_
    refine w_ld hx hb hK hP hN.2.1 ho_203_205 (kx) hxk (by omega) (show kx < 10 by omega) d_Box_cut_44 (fun z_207 ez_207 => ?_)
    subst ez_207
    refine lv_iload_n hx hb d_Box_cut_45 rfl (lv_at hl 2 rfl) ?_
    refine x_max hx hb hml hown hK hl.1 t_177 (Nat.le_of_ble_eq_true rfl) (Nat.le_of_ble_eq_true rfl) ⟨Nat.le_of_ble_eq_true rfl, Nat.le_of_ble_eq_true rfl⟩ (Nat.le_of_ble_eq_true rfl) rfl rfl  d_Box_cut_46 (fun z_208 tz_208 => ?_)
    refine w_st hx hb hK hi hP hS wA_mem hN.2.1 ho_203_205 (kx) hxk (by omega) (show kx < 10 by omega) d_Box_cut_49 (fun H locs hP hS => ?_)
    obtain ⟨cn_209, ecn_209⟩ : ∃ q : Nat → va_E, q = va_up cn_203 (b + 1) (.inl (cA 0, 10, .inl (upd f kx z_208))) := ⟨_, rfl⟩
    have hP : va_P D classes (wl N adr cn_209) H := by rw [ecn_209]; exact hP
    have ho_209_210 : cn_209 b = .inr (2, [.ref (adr (b + 1)), .ref (adr (b + 2)), .int (bi (ch || b_202_0))]) := by rw [ecn_209, va_up_ne _ _ (by omega)]; exact ho_203_204
    have ho_209_211 : cn_209 (b + 1) = .inl (cA 0, 10, .inl (upd f kx z_208)) := by rw [ecn_209]; exact va_up_self _ _ _
    have ho_209_212 : cn_209 (b + 2) = .inl (cA 0, 10, .inl g) := by rw [ecn_209, va_up_ne _ _ (by omega)]; exact ho_203_206
    have hfr_209 : ∀ k, k ≠ b → k ≠ b + 1 → k ≠ b + 2 → cn_209 k = cn k := fun k a1 a2 a3 => (congrFun ecn_209 k).trans ((va_up_ne _ _ (by omega)).trans (hfr_203 k a1 a2 a3))
    refine lv_aload_n hx hb d_Box_cut_50 rfl (lv_at hl 0 rfl) ?_
    refine w_gf hx hb hK i_Box hown hP hN.1 ho_209_210 rfl 1 (by decide) t_43 rfl rfl d_Box_cut_51 ?_
    refine lv_iload_n hx hb d_Box_cut_54 rfl (lv_at hl 1 rfl) ?_
    refine lv_aload_n hx hb d_Box_cut_55 rfl (lv_at hl 0 rfl) ?_
    refine w_gf hx hb hK i_Box hown hP hN.1 ho_209_210 rfl 1 (by decide) t_43 rfl rfl d_Box_cut_56 ?_
    refine lv_iload_n hx hb d_Box_cut_59 rfl (lv_at hl 1 rfl) ?_
    refine w_ld hx hb hK hP hN.2.2 ho_209_212 (kx) hxk (by omega) (show kx < 10 by omega) d_Box_cut_60 (fun z_213 ez_213 => ?_)
    subst ez_213
    refine lv_iload_n hx hb d_Box_cut_61 rfl (lv_at hl 3 rfl) ?_
    refine x_min hx hb hml hown hK hl.1 t_180 (Nat.le_of_ble_eq_true rfl) (Nat.le_of_ble_eq_true rfl) ⟨Nat.le_of_ble_eq_true rfl, Nat.le_of_ble_eq_true rfl⟩ (Nat.le_of_ble_eq_true rfl) rfl rfl  d_Box_cut_62 (fun z_214 tz_214 => ?_)
    refine w_st hx hb hK hi hP hS wA_mem hN.2.2 ho_209_212 (kx) hxk (by omega) (show kx < 10 by omega) d_Box_cut_65 (fun H locs hP hS => ?_)
    obtain ⟨cn_215, ecn_215⟩ : ∃ q : Nat → va_E, q = va_up cn_209 (b + 2) (.inl (cA 0, 10, .inl (upd g kx z_214))) := ⟨_, rfl⟩
    have hP : va_P D classes (wl N adr cn_215) H := by rw [ecn_215]; exact hP
    have ho_215_216 : cn_215 b = .inr (2, [.ref (adr (b + 1)), .ref (adr (b + 2)), .int (bi (ch || b_202_0))]) := by rw [ecn_215, va_up_ne _ _ (by omega)]; exact ho_209_210
    have ho_215_217 : cn_215 (b + 1) = .inl (cA 0, 10, .inl (upd f kx z_208)) := by rw [ecn_215, va_up_ne _ _ (by omega)]; exact ho_209_211
    have ho_215_218 : cn_215 (b + 2) = .inl (cA 0, 10, .inl (upd g kx z_214)) := by rw [ecn_215]; exact va_up_self _ _ _
    have hfr_215 : ∀ k, k ≠ b → k ≠ b + 1 → k ≠ b + 2 → cn_215 k = cn k := fun k a1 a2 a3 => (congrFun ecn_215 k).trans ((va_up_ne _ _ (by omega)).trans (hfr_209 k a1 a2 a3))
    refine lv_aload_n hx hb d_Box_cut_66 rfl (lv_at hl 0 rfl) ?_
    refine w_gf hx hb hK i_Box hown hP hN.1 ho_215_216 rfl 0 (by decide) t_37 rfl rfl d_Box_cut_67 ?_
    refine lv_iload_n hx hb d_Box_cut_70 rfl (lv_at hl 1 rfl) ?_
    refine w_ld hx hb hK hP hN.2.1 ho_215_217 (kx) hxk (by omega) (show kx < 10 by omega) d_Box_cut_71 (fun z_219 ez_219 => ?_)
    have ez_219 : z_219 = z_208 := by rw [ez_219]; simp [upd]
    rw [ez_219]
    refine lv_aload_n hx hb d_Box_cut_72 rfl (lv_at hl 0 rfl) ?_
    refine w_gf hx hb hK i_Box hown hP hN.1 ho_215_216 rfl 1 (by decide) t_43 rfl rfl d_Box_cut_73 ?_
    refine lv_iload_n hx hb d_Box_cut_76 rfl (lv_at hl 1 rfl) ?_
    refine w_ld hx hb hK hP hN.2.2 ho_215_218 (kx) hxk (by omega) (show kx < 10 by omega) d_Box_cut_77 (fun z_220 ez_220 => ?_)
    have ez_220 : z_220 = z_214 := by rw [ez_220]; simp [upd]
    rw [ez_220]
    have K_421 : ∀ (b_421_0 : Bool), (b_421_0 = true ↔ (max (f kx).toInt xf.toInt) ≤ (min (g kx).toInt xt.toInt)) → W p l e (rl 3) s m args below meth c H locs 0 0 Q (F0 m 86 ls [.int (bi b_421_0)]) := by
      intro b_421_0 hb_421_0
      refine e_z hx hb hr hlk hQ hS d_Box_cut_86 ?_
      refine ⟨cn_215, z_208, z_214, tz_208, tz_214, fin_b hb_421_0 (by omega), hfr_215, ⟨?_, ?_, ?_⟩, hP⟩
      · rw [← show (ch || b_202_0) = (ch || decide ((f kx).toInt < xf.toInt ∨ xt.toInt < (g kx).toInt)) from by rw [Bool.eq_iff_iff, Bool.or_eq_true, Bool.or_eq_true, hb_202_0, decide_eq_true_eq]]; exact ho_215_216
      · exact ho_215_217
      · exact ho_215_218
    refine b_icmp_gt (tgt := 85) hx hb d_Box_cut_78 (by decide) tz_208 tz_214 (fun c_422 => ?_) (fun c_422 => ?_)
    · refine lv_iconst (v := 0) hx hb d_Box_cut_85 (by decide) ?_
      exact K_421 false ⟨fun h => absurd h (by decide), fun h => absurd h (by omega)⟩
    · refine lv_iconst (v := 1) hx hb d_Box_cut_81 (by decide) ?_
      refine lv_goto (tgt := 86) hx hb d_Box_cut_82 (by decide) ?_
      exact K_421 true ⟨fun _ => by omega, fun _ => rfl⟩
  refine b_icmp_gt (tgt := 25) hx hb d_Box_cut_12 (by decide) rfl rfl (fun c_423 => ?_) (fun c_423 => ?_)
  · refine lv_iconst (v := 1) hx hb d_Box_cut_25 (by decide) ?_
    refine lv_goto (tgt := 30) hx hb d_Box_cut_26 (by decide) ?_
    exact K_202 true ⟨fun _ => by omega, fun _ => rfl⟩
  · refine lv_iload_n hx hb d_Box_cut_15 rfl (lv_at hl 3 rfl) ?_
    refine lv_aload_n hx hb d_Box_cut_16 rfl (lv_at hl 0 rfl) ?_
    refine w_gf hx hb hK i_Box hown hP hN.1 hB.1 rfl 1 (by decide) t_43 rfl rfl d_Box_cut_17 ?_
    refine lv_iload_n hx hb d_Box_cut_20 rfl (lv_at hl 1 rfl) ?_
    refine w_ld hx hb hK hP hN.2.2 hB.2.2 (kx) hxk (by omega) (show kx < 10 by omega) d_Box_cut_21 (fun z_424 ez_424 => ?_)
    subst ez_424
    refine b_icmp_ge (tgt := 29) hx hb d_Box_cut_22 (by decide) rfl rfl (fun c_425 => ?_) (fun c_425 => ?_)
    · refine lv_iconst (v := 0) hx hb d_Box_cut_29 (by decide) ?_
      exact K_202 false ⟨fun h => absurd h (by decide), fun h => absurd h (by omega)⟩
    · refine lv_iconst (v := 1) hx hb d_Box_cut_25 (by decide) ?_
      refine lv_goto (tgt := 30) hx hb d_Box_cut_26 (by decide) ?_
      exact K_202 true ⟨fun _ => by omega, fun _ => rfl⟩
theorem d_Box_isFixed_0 : decode b_Box_isFixed 0 = .ok (.aload_n 0, 1) := by decide +kernel
theorem d_Box_isFixed_1 : decode b_Box_isFixed 1 = .ok (.getfield 9, 3) := by decide +kernel
theorem d_Box_isFixed_4 : decode b_Box_isFixed 4 = .ok (.iload_n 1, 1) := by decide +kernel
theorem d_Box_isFixed_5 : decode b_Box_isFixed 5 = .ok (.iaload, 1) := by decide +kernel
theorem d_Box_isFixed_6 : decode b_Box_isFixed 6 = .ok (.aload_n 0, 1) := by decide +kernel
theorem d_Box_isFixed_7 : decode b_Box_isFixed 7 = .ok (.getfield 15, 3) := by decide +kernel
theorem d_Box_isFixed_10 : decode b_Box_isFixed 10 = .ok (.iload_n 1, 1) := by decide +kernel
theorem d_Box_isFixed_11 : decode b_Box_isFixed 11 = .ok (.iaload, 1) := by decide +kernel
theorem d_Box_isFixed_12 : decode b_Box_isFixed 12 = .ok (.if_icmp .ne 7, 3) := by decide +kernel
theorem d_Box_isFixed_15 : decode b_Box_isFixed 15 = .ok (.iconst 1, 1) := by decide +kernel
theorem d_Box_isFixed_16 : decode b_Box_isFixed 16 = .ok (.goto 4, 3) := by decide +kernel
theorem d_Box_isFixed_19 : decode b_Box_isFixed 19 = .ok (.iconst 0, 1) := by decide +kernel
theorem d_Box_isFixed_20 : decode b_Box_isFixed 20 = .ok (.ireturn, 1) := by decide +kernel
set_option maxHeartbeats 4000000 in
set_option maxRecDepth 20000 in
theorem k_Box_isFixed (l : Launch) (D : va_G) (cA : Nat → ClassId) (adr : Nat → Nat) (N : List Nat) (hi : wI N adr) (cn : Nat → va_E) (b : Nat) (f g : Nat → Int32) (ch : Bool) (hB : BP cA adr cn b f g ch) (hN : BM N b) (kx : Nat) (xk : Int32) (hxk : xk.toInt = (kx : Int)) (hk : kx < 10) : Ct l y_Box_isFixed b_Box_isFixed 2 (some .boolean) 1 D cA [.ref (adr b), .int xk] (fun H => va_P D classes (wl N adr cn) H) (fun r H => r = some (.int (bi (decide ((f kx).toInt = (g kx).toInt)))) ∧ va_P D classes (wl N adr cn) H) (wA N adr) := by
  refine Ct.mk (by decide) (Nat.le_of_ble_eq_true rfl) ?_
  intro p e s m args below meth c Q H locs ls hx hb hr hml hlk hown hin hK hQ hS hP hl
  have hl : lv_has ls 2 [(0, .ref (adr b)), (1, .int xk)] := hl
  have hown : s.vm.findClass "RangeSheet$Box" = some m.cls := hown
  refine lv_aload_n hx hb d_Box_isFixed_0 rfl (lv_at hl 0 rfl) ?_
  refine w_gf hx hb hK i_Box hown hP hN.1 hB.1 rfl 0 (by decide) t_37 rfl rfl d_Box_isFixed_1 ?_
  refine lv_iload_n hx hb d_Box_isFixed_4 rfl (lv_at hl 1 rfl) ?_
  refine w_ld hx hb hK hP hN.2.1 hB.2.1 (kx) hxk (by omega) (show kx < 10 by omega) d_Box_isFixed_5 (fun z_1 ez_1 => ?_)
  subst ez_1
  refine lv_aload_n hx hb d_Box_isFixed_6 rfl (lv_at hl 0 rfl) ?_
  refine w_gf hx hb hK i_Box hown hP hN.1 hB.1 rfl 1 (by decide) t_43 rfl rfl d_Box_isFixed_7 ?_
  refine lv_iload_n hx hb d_Box_isFixed_10 rfl (lv_at hl 1 rfl) ?_
  refine w_ld hx hb hK hP hN.2.2 hB.2.2 (kx) hxk (by omega) (show kx < 10 by omega) d_Box_isFixed_11 (fun z_2 ez_2 => ?_)
  subst ez_2
  have K_203 : ∀ (b_203_0 : Bool), (b_203_0 = true ↔ (f kx).toInt = (g kx).toInt) → W p l e (rl 1) s m args below meth c H locs 0 0 Q (F0 m 20 ls [.int (bi b_203_0)]) := by
    intro b_203_0 hb_203_0
    refine e_z hx hb hr hlk hQ hS d_Box_isFixed_20 ?_
    exact ⟨fin_b hb_203_0 (by omega), hP⟩
  refine b_icmp_ne (tgt := 19) hx hb d_Box_isFixed_12 (by decide) rfl rfl (fun c_204 => ?_) (fun c_204 => ?_)
  · refine lv_iconst (v := 0) hx hb d_Box_isFixed_19 (by decide) ?_
    exact K_203 false ⟨fun h => absurd h (by decide), fun h => absurd h (by omega)⟩
  · refine lv_iconst (v := 1) hx hb d_Box_isFixed_15 (by decide) ?_
    refine lv_goto (tgt := 20) hx hb d_Box_isFixed_16 (by decide) ?_
    exact K_203 true ⟨fun _ => by omega, fun _ => rfl⟩
