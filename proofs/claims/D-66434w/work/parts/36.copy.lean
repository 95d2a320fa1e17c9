section WR2
variable {p : Program} {l : Launch} {e : Env} {R : Room} {s : State} {m : MethodId} {args : Array Value} {below : List Frame} {meth : Method} {c : Code} {H : Heap} {locs : List Loc} {cells slots : Nat} {Q : State → Prop}
variable {cc : ByteArray} {pc : Nat} {ls : Array Slot} {rest : List Value} {D : va_G} {cA : Nat → ClassId} {A : Nat → Prop} {H0 : Heap} {N : List Nat} {adr : Nat → Nat} {cn : Nat → va_E} {n n0 nL : Nat}
theorem w_ald (hexec : p.tables.exec = Jvm.exec) (hb : c.code = cc) (hK : KE D cA s) (hP : va_P D classes (wl N adr cn) H) (hn : n ∈ N) {len ti : Nat} {C : String} {fr : Nat → Option Nat} (he : cn n = .inl (cA ti, len, .inr (.inr (.inr (.inr fr))))) (ht : (tysA cA)[ti]? = some (cA ti, .object C)) {i : Int32} {a : Int} (j : Nat) (hi : i.toInt = a) (hj : a = (j : Int)) (hlt : j < len) {q : Nat} (hq : fr j = some q) (hdg : decode cc pc = .ok (.aaload, 1))
    (kk : W p l e R s m args below meth c H locs cells slots Q (F0 m (pc + 1) ls (.ref q :: rest))) : W p l e R s m args below meth c H locs cells slots Q (F0 m pc ls (.int i :: .ref (adr n) :: rest)) := by
  obtain ⟨q0, hq0⟩ := List.getElem?_of_mem hn
  exact va_aldq hexec hb hK.2 hP q0 ti (by rw [wl_at hq0, he]) ht (i_vpin hi (by omega) (by omega)) hdg (by rw [i_nat (hi.trans hj), hq]; exact kk)
theorem w_cpy (hexec : p.tables.exec = Jvm.exec) (hb : c.code = cc) (hml : c.maxLocals = nL) {own : String} {index : Nat} (hown : s.vm.findClass own = some m.cls) (hK : KE D cA s) (hsize : ls.size = nL) (tl : Cond.methodLink own index arraycopyName ∈ TW) (hi : wI N adr) (hP : va_P D classes (wl N adr cn) H) (hS : va_S A H0 H locs) (hA : ∀ n ∈ N, A (adr n)) (hn0 : n0 ∈ N) (hn : n ∈ N) {len0 len : Nat} {f g : Nat → Int32} (he0 : cn n0 = .inl (cA 0, len0, .inl f)) (he : cn n = .inl (cA 0, len, .inl g))
    {k : Int32} {a : Int} (j : Nat) (hk : k.toInt = a) (hj : a = (j : Int)) (h0 : j ≤ len0) (h1 : j ≤ len) (hfr : 1 ≤ R.frames) (hlo : 60 ≤ R.locals) (hW : (rest.map fun v => v.category).sum ≤ 8) (hdg : decode cc pc = .ok (.invokestatic index, 3))
    (kk : ∀ (H1 : Heap) (locs1 : List Loc), va_P D classes (wl N adr (va_up cn n (.inl (cA 0, len, .inl (va_cpy f g 0 0 j))))) H1 → va_S A H0 H1 locs1 → W p l e R s m args below meth c H1 locs1 cells slots Q (F0 m (pc + 3) ls rest)) : W p l e R s m args below meth c H locs cells slots Q (F0 m pc ls (.int k :: .int 0 :: .ref (adr n) :: .int 0 :: .ref (adr n0) :: rest)) := by
  obtain ⟨q0, hq0⟩ := List.getElem?_of_mem hn0
  obtain ⟨q, hq⟩ := List.getElem?_of_mem hn
  have hkn : k.toNatClampNeg = j := i_nat (hk.trans hj)
  refine va_copyi hexec hb (hml.trans hsize.symm) hown (hK.w tl) (hK.w t_172) (hK.w t_171) (hK.w t_21) hK.2 hP (wl_D hi hA) hS q0 q 0 0 (by rw [wl_at hq0, he0]) (by rw [wl_at hq, he]) rfl rfl rfl (by decide) (by decide) (fun h => ?_) (by rw [hkn]; show 0 + j ≤ _; omega) (by rw [hkn]; show 0 + j ≤ _; omega) (fun _ _ => rfl) hfr (Nat.le_trans (Nat.add_le_add hW (show nativeFrameWords "java/lang/System" "arraycopy" 5 + 11 ≤ 52 by decide +kernel)) hlo) hdg (fun H1 l1 h2 _ h3 => kk H1 l1 ?_ h3)
  · have := (q_lt hk q_0).mp h; omega
  · rw [wl_set hi.1 hq, hkn] at h2; exact h2
end WR2
theorem d_Box_copy_0 : decode b_Box_copy 0 = .ok (.aload_n 1, 1) := by decide +kernel
theorem d_Box_copy_1 : decode b_Box_copy 1 = .ok (.getfield 9, 3) := by decide +kernel
theorem d_Box_copy_4 : decode b_Box_copy 4 = .ok (.iconst 0, 1) := by decide +kernel
theorem d_Box_copy_5 : decode b_Box_copy 5 = .ok (.aload_n 0, 1) := by decide +kernel
theorem d_Box_copy_6 : decode b_Box_copy 6 = .ok (.getfield 9, 3) := by decide +kernel
theorem d_Box_copy_9 : decode b_Box_copy 9 = .ok (.iconst 0, 1) := by decide +kernel
theorem d_Box_copy_10 : decode b_Box_copy 10 = .ok (.bipush 10, 2) := by decide +kernel
theorem d_Box_copy_12 : decode b_Box_copy 12 = .ok (.invokestatic 18, 3) := by decide +kernel
theorem d_Box_copy_15 : decode b_Box_copy 15 = .ok (.aload_n 1, 1) := by decide +kernel
theorem d_Box_copy_16 : decode b_Box_copy 16 = .ok (.getfield 15, 3) := by decide +kernel
theorem d_Box_copy_19 : decode b_Box_copy 19 = .ok (.iconst 0, 1) := by decide +kernel
theorem d_Box_copy_20 : decode b_Box_copy 20 = .ok (.aload_n 0, 1) := by decide +kernel
theorem d_Box_copy_21 : decode b_Box_copy 21 = .ok (.getfield 15, 3) := by decide +kernel
theorem d_Box_copy_24 : decode b_Box_copy 24 = .ok (.iconst 0, 1) := by decide +kernel
theorem d_Box_copy_25 : decode b_Box_copy 25 = .ok (.bipush 10, 2) := by decide +kernel
theorem d_Box_copy_27 : decode b_Box_copy 27 = .ok (.invokestatic 18, 3) := by decide +kernel
theorem d_Box_copy_30 : decode b_Box_copy 30 = .ok (.return_, 1) := by decide +kernel
set_option maxHeartbeats 4000000 in
set_option maxRecDepth 20000 in
theorem k_Box_copy (l : Launch) (D : va_G) (cA : Nat → ClassId) (adr : Nat → Nat) (N : List Nat) (hi : wI N adr) (cn : Nat → va_E) (b : Nat) (f g : Nat → Int32) (ch : Bool) (hB : BP cA adr cn b f g ch) (hMb : BM N b) (a0 : Nat) (fa ga : Nat → Int32) (ca : Bool) (hBa : BP cA adr cn a0 fa ga ca) (hMa : BM N a0) (hd : a0 + 2 < b ∨ b + 2 < a0) : Ct l y_Box_copy b_Box_copy 2 none 2 D cA [.ref (adr b), .ref (adr a0)] (fun H => va_P D classes (wl N adr cn) H) (fun r H => ∃ cn2 : Nat → va_E, r = none ∧ FrB b cn cn2 ∧ BP cA adr cn2 b (va_cpy fa f 0 0 10) (va_cpy ga g 0 0 10) ch ∧ va_P D classes (wl N adr cn2) H) (wA N adr) := by
  refine Ct.mk (by decide) (Nat.le_of_ble_eq_true rfl) ?_
  intro p e s m args below meth c Q H locs ls hx hb hr hml hlk hown hin hK hQ hS hP hl
  have hl : lv_has ls 2 [(0, .ref (adr b)), (1, .ref (adr a0))] := hl
  have hown : s.vm.findClass "RangeSheet$Box" = some m.cls := hown
  refine lv_aload_n hx hb d_Box_copy_0 rfl (lv_at hl 1 rfl) ?_
  refine w_gf hx hb hK i_Box hown hP hMa.1 hBa.1 rfl 0 (by decide) t_37 rfl rfl d_Box_copy_1 ?_
  refine lv_iconst (v := 0) hx hb d_Box_copy_4 (by decide) ?_
  refine lv_aload_n hx hb d_Box_copy_5 rfl (lv_at hl 0 rfl) ?_
  refine w_gf hx hb hK i_Box hown hP hMb.1 hB.1 rfl 0 (by decide) t_37 rfl rfl d_Box_copy_6 ?_
  refine lv_iconst (v := 0) hx hb d_Box_copy_9 (by decide) ?_
  refine lv_bipush (v := 10) hx hb d_Box_copy_10 (by decide) ?_
  refine w_cpy hx hb hml hown hK hl.1 t_170 hi hP hS wA_mem hMa.2.1 hMb.2.1 hBa.2.1 hB.2.1 (10) kc_10 (by omega) (by omega) (by omega) (Nat.le_of_ble_eq_true rfl) (Nat.le_of_ble_eq_true rfl) (Nat.le_of_ble_eq_true rfl) d_Box_copy_12 (fun H locs hP hS => ?_)
  obtain ⟨cn_1, ecn_1⟩ : ∃ q : Nat → va_E, q = va_up cn (b + 1) (.inl (cA 0, 10, .inl (va_cpy fa f 0 0 10))) := ⟨_, rfl⟩
  have hP : va_P D classes (wl N adr cn_1) H := by rw [ecn_1]; exact hP
  have ho_1_2 : cn_1 b = .inr (2, [.ref (adr (b + 1)), .ref (adr (b + 2)), .int (bi ch)]) := by rw [ecn_1, va_up_ne _ _ (by omega)]; exact hB.1
  have ho_1_3 : cn_1 (b + 1) = .inl (cA 0, 10, .inl (va_cpy fa f 0 0 10)) := by rw [ecn_1]; exact va_up_self _ _ _
  have ho_1_4 : cn_1 (b + 2) = .inl (cA 0, 10, .inl g) := by rw [ecn_1, va_up_ne _ _ (by omega)]; exact hB.2.2
  have ho_1_5 : cn_1 a0 = .inr (2, [.ref (adr (a0 + 1)), .ref (adr (a0 + 2)), .int (bi ca)]) := by rw [ecn_1, va_up_ne _ _ (by omega)]; exact hBa.1
  have ho_1_6 : cn_1 (a0 + 1) = .inl (cA 0, 10, .inl fa) := by rw [ecn_1, va_up_ne _ _ (by omega)]; exact hBa.2.1
  have ho_1_7 : cn_1 (a0 + 2) = .inl (cA 0, 10, .inl ga) := by rw [ecn_1, va_up_ne _ _ (by omega)]; exact hBa.2.2
  have hfr_1 : ∀ k, k ≠ b → k ≠ b + 1 → k ≠ b + 2 → cn_1 k = cn k := fun k a1 a2 a3 => (congrFun ecn_1 k).trans ((va_up_ne _ _ (by omega)).trans rfl)
  refine lv_aload_n hx hb d_Box_copy_15 rfl (lv_at hl 1 rfl) ?_
  refine w_gf hx hb hK i_Box hown hP hMa.1 ho_1_5 rfl 1 (by decide) t_43 rfl rfl d_Box_copy_16 ?_
  refine lv_iconst (v := 0) hx hb d_Box_copy_19 (by decide) ?_
  refine lv_aload_n hx hb d_Box_copy_20 rfl (lv_at hl 0 rfl) ?_
  refine w_gf hx hb hK i_Box hown hP hMb.1 ho_1_2 rfl 1 (by decide) t_43 rfl rfl d_Box_copy_21 ?_
  refine lv_iconst (v := 0) hx hb d_Box_copy_24 (by decide) ?_
  refine lv_bipush (v := 10) hx hb d_Box_copy_25 (by decide) ?_
  refine w_cpy hx hb hml hown hK hl.1 t_170 hi hP hS wA_mem hMa.2.2 hMb.2.2 ho_1_7 ho_1_4 (10) kc_10 (by omega) (by omega) (by omega) (Nat.le_of_ble_eq_true rfl) (Nat.le_of_ble_eq_true rfl) (Nat.le_of_ble_eq_true rfl) d_Box_copy_27 (fun H locs hP hS => ?_)
  obtain ⟨cn_8, ecn_8⟩ : ∃ q : Nat → va_E, q = va_up cn_1 (b + 2) (.inl (cA 0, 10, .inl (va_cpy ga g 0 0 10))) := ⟨_, rfl⟩
  have hP : va_P D classes (wl N adr cn_8) H := by rw [ecn_8]; exact hP
  have ho_8_9 : cn_8 b = .inr (2, [.ref (adr (b + 1)), .ref (adr (b + 2)), .int (bi ch)]) := by rw [ecn_8, va_up_ne _ _ (by omega)]; exact ho_1_2
  have ho_8_10 : cn_8 (b + 1) = .inl (cA 0, 10, .inl (va_cpy fa f 0 0 10)) := by rw [ecn_8, va_up_ne _ _ (by omega)]; exact ho_1_3
  have ho_8_11 : cn_8 (b + 2) = .inl (cA 0, 10, .inl (va_cpy ga g 0 0 10)) := by rw [ecn_8]; exact va_up_self _ _ _
  have ho_8_12 : cn_8 a0 = .inr (2, [.ref (adr (a0 + 1)), .ref (adr (a0 + 2)), .int (bi ca)]) := by rw [ecn_8, va_up_ne _ _ (by omega)]; exact ho_1_5
  have ho_8_13 : cn_8 (a0 + 1) = .inl (cA 0, 10, .inl fa) := by rw [ecn_8, va_up_ne _ _ (by omega)]; exact ho_1_6
  have ho_8_14 : cn_8 (a0 + 2) = .inl (cA 0, 10, .inl ga) := by rw [ecn_8, va_up_ne _ _ (by omega)]; exact ho_1_7
  have hfr_8 : ∀ k, k ≠ b → k ≠ b + 1 → k ≠ b + 2 → cn_8 k = cn k := fun k a1 a2 a3 => (congrFun ecn_8 k).trans ((va_up_ne _ _ (by omega)).trans (hfr_1 k a1 a2 a3))
  refine e_v hx hb hr hlk hQ hS d_Box_copy_30 ?_
  exact ⟨cn_8, rfl, hfr_8, ⟨ho_8_9, ho_8_10, ho_8_11⟩, hP⟩
