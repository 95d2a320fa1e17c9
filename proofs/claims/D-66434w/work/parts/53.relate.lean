theorem d_Sht_relate_64 : decode b_Sht_relate 64 = .ok (.aastore, 1) := by decide +kernel
theorem d_Sht_relate_65 : decode b_Sht_relate 65 = .ok (.aload_n 0, 1) := by decide +kernel
theorem d_Sht_relate_66 : decode b_Sht_relate 66 = .ok (.dup, 1) := by decide +kernel
theorem d_Sht_relate_67 : decode b_Sht_relate 67 = .ok (.getfield 127, 3) := by decide +kernel
theorem d_Sht_relate_70 : decode b_Sht_relate 70 = .ok (.dup_x1, 1) := by decide +kernel
theorem d_Sht_relate_71 : decode b_Sht_relate 71 = .ok (.iconst 1, 1) := by decide +kernel
theorem d_Sht_relate_72 : decode b_Sht_relate 72 = .ok (.iadd, 1) := by decide +kernel
theorem d_Sht_relate_73 : decode b_Sht_relate 73 = .ok (.putfield 127, 3) := by decide +kernel
theorem d_Sht_relate_76 : decode b_Sht_relate 76 = .ok (.ireturn, 1) := by decide +kernel
theorem relE_adr {adr adr' : Nat → Nat} {k : Int} {a b c : Int32} (ha : ∀ j, j < 56 → adr' j = adr j) (h8 : k = 8 → 0 ≤ c.toInt ∧ c.toInt < 3) : relE adr' k a b c = relE adr k a b c := by
  unfold relE
  by_cases q : k = 8
  · have := h8 q
    rw [ha _ (by omega)]
  · rw [if_neg q, if_neg q]
theorem relE_cls {adr : Nat → Nat} {k : Int} {a b c : Int32} (hk : 0 ≤ k ∧ k ≤ 8) : ∃ (ci : Nat) (vs : List Value) (C : String) (T : u_T) (Nf : Nat), relE adr k a b c = .inr (ci, vs) ∧ classes[ci]? = some (C, T, Nf) ∧ Cond.castable C "RangeSheet$Relation" ∈ TW := by
  rcases (by omega : k = 0 ∨ k = 1 ∨ k = 2 ∨ k = 3 ∨ k = 4 ∨ k = 5 ∨ k = 6 ∨ k = 7 ∨ k = 8) with h | h | h | h | h | h | h | h | h <;> subst h
  · exact ⟨7, _, R_Sum, F_Sum, 10, rfl, rfl, t_1064⟩
  · exact ⟨8, _, R_Product, F_Product, 10, rfl, rfl, t_1062⟩
  · exact ⟨9, _, R_Quotient, F_Quotient, 10, rfl, rfl, t_1063⟩
  · exact ⟨10, _, R_Lesser, F_Lesser, 10, rfl, rfl, t_1060⟩
  · exact ⟨11, _, R_Greater, F_Greater, 10, rfl, rfl, t_1058⟩
  · exact ⟨4, _, R_AtMost, F_AtMost, 4, rfl, rfl, t_1056⟩
  · exact ⟨12, _, R_If, F_If, 10, rfl, rfl, t_1059⟩
  · exact ⟨5, _, R_Different, F_Different, 2, rfl, rfl, t_1057⟩
  · exact ⟨6, _, R_Lookup, F_Lookup, 4, rfl, rfl, t_1061⟩
section RT
variable {p : Program} {l : Launch} {e : Env} {R : Room} {s : State} {m : MethodId} {args : Array Value} {below : List Frame} {meth : Method} {c : Code} {H : Heap} {locs : List Loc} {cells slots : Nat} {Q : State → Prop}
variable {ls : Array Slot} {D : va_G} {cA : Nat → ClassId} {A : Nat → Prop} {N : List Nat} {adr : Nat → Nat} {cn : Nat → va_E} {nL : Nat}
theorem w_ast {cc : ByteArray} {pc : Nat} {rest : List Value} {H0 : Heap} (hexec : p.tables.exec = Jvm.exec) (hb : c.code = cc) (hK : KE D cA s) (hi : wI N adr) (hP : va_P D classes (wl N adr cn) H) (hS : va_S A H0 H locs) (hA : ∀ n ∈ N, A (adr n)) {n v t0 ci : Nat} (hn : n ∈ N) (hv : v ∈ N) {E C : String} {T : u_T} {Nf len : Nat} {vs : List Value} {f : Nat → Option Nat} (he : cn n = .inl (cA t0, len, .inr (.inr (.inr (.inr f))))) (ht : (tysA cA)[t0]? = some (cA t0, .object E)) (tca : Cond.castable C E ∈ TW) (hev : cn v = .inr (ci, vs)) (hc : classes[ci]? = some (C, T, Nf)) {i : Int32} {a0 : Int} (j : Nat) (hj0 : i.toInt = a0) (hj : a0 = (j : Int)) (hlt : j < len) (hdg : decode cc pc = .ok (.aastore, 1))
    (kk : ∀ (H1 : Heap) (locs1 : List Loc), va_P D classes (wl N adr (va_up cn n (.inl (cA t0, len, .inr (.inr (.inr (.inr (va_up f j (some (adr v)))))))))) H1 → va_S A H0 H1 locs1 → W p l e R s m args below meth c H1 locs1 cells slots Q (F0 m (pc + 1) ls rest)) : W p l e R s m args below meth c H locs cells slots Q (F0 m pc ls (.ref (adr v) :: .int i :: .ref (adr n) :: rest)) := by
  obtain ⟨q, hq⟩ := List.getElem?_of_mem hn
  obtain ⟨qv, hqv⟩ := List.getElem?_of_mem hv
  exact l_ast hexec hb hK hP (wl_D hi hA) hS q t0 qv ci (by rw [wl_at hq, he]) ht (Or.inl tca) (by rw [wl_at hqv, hev]) hc j hj0 hj hlt hdg (fun H1 l1 h1 _ h3 => kk H1 l1 (by rw [wl_set hi.1 hq] at h1; exact h1) h3)
set_option maxHeartbeats 1000000 in
theorem rel_tail {Post : Option Value → Heap → Prop} {I : Nat → Int32} {F : Nat → Nat → Int32} {mm : Nat} {x : Nat → Int32} {dn : Bool} {xk xa xb xc : Int32} (hx : p.tables.exec = Jvm.exec) (hb : c.code = b_Sht_relate) (hr : meth.sig.returnType = some .int) (hlk : meth.locks = false) (hown : s.vm.findClass "RangeSheet" = some m.cls) (hK : KE D cA s) (hQ : Q = MQ below (Qc0 Post A) args s cells slots A) (hi : wI N adr) (hP : va_P D classes (wl N adr cn) H) (hS : va_S A s.heap H locs) (hA : ∀ n ∈ N, A (adr n)) (hNm : ∀ k, k < 56 + (mm + 1) → k ∈ N) (hm : mm < 12) (hCP : CP cA adr cn I F mm x dn) (hx3 : (x 3).toInt = (mm : Int)) (hrel : cn (56 + mm) = relE adr xk.toInt xa xb xc) (hk8 : 0 ≤ xk.toInt ∧ xk.toInt ≤ 8) {lv : List (Nat × Value)} (hl : lv_has ls 5 ((0, .ref (adr 0)) :: lv))
    (hpost : ∀ (z : Int32) (H1 : Heap) (cn' : Nat → va_E) (y : Nat → Int32), z.toInt = (mm : Int) → CP cA adr cn' (va_up I 4 (Int32.ofInt ((mm : Int) + 1))) (G_rel F mm xk xa xb xc) (mm + 1) y dn → va_P D classes (wl N adr cn') H1 → Post (some (.int z)) H1) :
    W p l e R s m args below meth c H locs cells slots Q (F0 m 64 ls [.ref (adr (56 + mm)), .int (x 3), .ref (adr 1)]) := by
  obtain ⟨ci, vs, C, T, Nf, e1, e2, e3⟩ := relE_cls (adr := adr) (a := xa) (b := xb) (c := xc) hk8
  refine w_ast hx hb hK hi hP hS hA (hNm 1 (by omega)) (hNm (56 + mm) (by omega)) hCP.1.2.1 rfl e3 (hrel.trans e1) e2 mm hx3 rfl (by omega) d_Sht_relate_64 (fun H locs hP hS => ?_)
  refine lv_aload_n hx hb d_Sht_relate_65 rfl (lv_at hl 0 rfl) ?_
  refine lv_dup hx hb d_Sht_relate_66 rfl ?_
  refine w_gf hx hb hK i_Sht hown hP (hNm 0 (by omega)) (by rw [va_up_ne _ _ (by omega)]; exact hCP.1.1) rfl 3 (by decide) t_88 rfl rfl d_Sht_relate_67 ?_
  refine lv_dup_x1 hx hb d_Sht_relate_70 rfl rfl ?_
  refine lv_iconst (v := 1) hx hb d_Sht_relate_71 (by decide) ?_
  refine x_add hx hb d_Sht_relate_72 hx3 kc_1 (by omega) (fun z tz => ?_)
  refine w_pf hx hb hK i_Sht t_Sht t_Sht_ok n_Sht hown hi hP hS hA (hNm 0 (by omega)) (by rw [va_up_ne _ _ (by omega)]; exact hCP.1.1) rfl 3 (by decide) t_88 rfl rfl rfl rfl rfl d_Sht_relate_73 (fun H locs hP hS => ?_)
  refine e_i hx hb hr hlk hQ hS d_Sht_relate_76 ?_
  have ez := i32_of tz
  obtain ⟨cn4, hc4, hP4⟩ : ∃ q, q = va_up (va_up cn 1 _) 0 _ ∧ va_P D classes (wl N adr q) H := ⟨_, rfl, hP⟩
  have hC := CP.rel (cn' := cn4) (k := xk) (a := xa) (b := xb) (c := xc) (v := z) hCP tz (by rw [hc4]; exact va_up_self _ _ _) (by rw [hc4, va_up_ne _ _ (by omega), va_up_self]) (by rw [hc4, va_up_ne _ _ (by omega), va_up_ne _ _ (by omega)]; exact hrel) hk8 (fun j h0 h1 _ => by rw [hc4, va_up_ne _ _ h0, va_up_ne _ _ h1])
  rw [ez] at hC
  exact hpost _ H _ _ hx3 hC hP4
end RT
theorem d_Sht_relate_0 : decode b_Sht_relate 0 = .ok (.iload_n 1, 1) := by decide +kernel
theorem d_Sht_relate_1 : decode b_Sht_relate 1 = .ok (.iconst 0, 1) := by decide +kernel
theorem d_Sht_relate_2 : decode b_Sht_relate 2 = .ok (.bipush 8, 2) := by decide +kernel
theorem d_Sht_relate_4 : decode b_Sht_relate 4 = .ok (.invokestatic 59, 3) := by decide +kernel
theorem d_Sht_relate_7 : decode b_Sht_relate 7 = .ok (.ifCond .eq 19, 3) := by decide +kernel
theorem d_Sht_relate_10 : decode b_Sht_relate 10 = .ok (.aload_n 0, 1) := by decide +kernel
theorem d_Sht_relate_11 : decode b_Sht_relate 11 = .ok (.iload_n 1, 1) := by decide +kernel
theorem d_Sht_relate_12 : decode b_Sht_relate 12 = .ok (.iload_n 2, 1) := by decide +kernel
theorem d_Sht_relate_13 : decode b_Sht_relate 13 = .ok (.iload_n 3, 1) := by decide +kernel
theorem d_Sht_relate_14 : decode b_Sht_relate 14 = .ok (.iload 4, 2) := by decide +kernel
theorem d_Sht_relate_16 : decode b_Sht_relate 16 = .ok (.invokevirtual 123, 3) := by decide +kernel
theorem d_Sht_relate_19 : decode b_Sht_relate 19 = .ok (.ifCond .eq 7, 3) := by decide +kernel
theorem d_Sht_relate_26 : decode b_Sht_relate 26 = .ok (.iconst 0, 1) := by decide +kernel
theorem d_Sht_relate_27 : decode b_Sht_relate 27 = .ok (.invokestatic 73, 3) := by decide +kernel
set_option maxHeartbeats 4000000 in
set_option maxRecDepth 20000 in
theorem k_Sht_relate_T1 (l : Launch) (htr : l.stackTraces = false) (D : va_G) (cA : Nat → ClassId) (adr : Nat → Nat) (N : List Nat) (cn : Nat → va_E) (x : Nat → Int32) (dn : Bool) (h00 : cn 0 = .inr (1, SF adr x dn)) (hN0 : 0 ∈ N) (nn : Nat) (hv1 : (x 1).toInt = (nn : Int)) (hn10 : nn ≤ 10) (xk xa xb xc : Int32) (h0 : ¬ RO nn xk.toInt xa.toInt xb.toInt xc.toInt) : CtT l y_Sht_relate b_Sht_relate 5 (some .int) 9 D cA [.ref (adr 0), .int xk, .int xa, .int xb, .int xc] (fun H => va_P D classes (wl N adr cn) H) "java/lang/IllegalArgumentException" := by
  refine CtT.mk (by decide) (Nat.le_of_ble_eq_true rfl) ?_
  intro p e s m args below meth c Q H locs ls hx hb hr hml hlk hown hin hK hTh hex hQ hS hP hl
  have hl : lv_has ls 5 [(0, .ref (adr 0)), (1, .int xk), (2, .int xa), (3, .int xb), (4, .int xc)] := hl
  have hown : s.vm.findClass "RangeSheet" = some m.cls := hown
  refine lv_iload_n hx hb d_Sht_relate_0 rfl (lv_at hl 1 rfl) ?_
  refine lv_iconst (v := 0) hx hb d_Sht_relate_1 (by decide) ?_
  refine lv_bipush (v := 8) hx hb d_Sht_relate_2 (by decide) ?_
  refine r_wn_Sht hx hb hml hown hK hl.1 hS ⟨Nat.le_of_ble_eq_true rfl, Nat.le_of_ble_eq_true rfl⟩ ⟨Nat.le_of_ble_eq_true rfl, Nat.le_of_ble_eq_true rfl⟩ rfl kc_0 kc_8  d_Sht_relate_4 (Nat.le_of_ble_eq_true rfl) (fun locs hS => ?_)
  refine b_bool_eq (tgt := 26) hx hb d_Sht_relate_7 (by decide) (fun c_1 => ?_) (fun c_1 => ?_)
  · have hc_1 := of_decide_eq_false c_1
    refine lv_iconst (v := 0) hx hb d_Sht_relate_26 (by decide) ?_
    refine W.eq (g2 := F0 m 27 ls (.int (bi false) :: [])) rfl ?_
    exact t_S (As := [.int (bi false)]) (rest := []) hx hb hml hown hK hTh (k_Sht_need_T l htr D cA false rfl) t_399 t_1 t_397 t_398 yk_Sht_need ⟨Nat.le_of_ble_eq_true rfl, Nat.le_of_ble_eq_true rfl⟩ ⟨Nat.le_of_ble_eq_true rfl, Nat.le_of_ble_eq_true rfl⟩ trivial rfl hl.1 rfl (Nat.le_of_ble_eq_true rfl) d_Sht_relate_27 hS hex hlk hQ
  · have hc_1 := of_decide_eq_true c_1
    refine lv_aload_n hx hb d_Sht_relate_10 rfl (lv_at hl 0 rfl) ?_
    refine lv_iload_n hx hb d_Sht_relate_11 rfl (lv_at hl 1 rfl) ?_
    refine lv_iload_n hx hb d_Sht_relate_12 rfl (lv_at hl 2 rfl) ?_
    refine lv_iload_n hx hb d_Sht_relate_13 rfl (lv_at hl 3 rfl) ?_
    refine lv_iload hx hb d_Sht_relate_14 (lv_at hl 4 rfl) ?_
    refine x_V (As := [.int xk, .int xa, .int xb, .int xc]) (rest := []) hx hb hml hown hK (k_Sht_isGood l D cA adr N cn x dn h00 hN0 nn hv1 hn10 xk xa xb xc (by omega)) t_490 t_1 t_487 t_489 ts_8 yk_Sht_isGood ⟨Nat.le_of_ble_eq_true rfl, Nat.le_of_ble_eq_true rfl⟩ (w_rec hK hP hN0 h00 rfl) hP rfl hl.1 rfl (Nat.le_of_ble_eq_true rfl) d_Sht_relate_16 ⟨Nat.le_of_ble_eq_true rfl, Nat.le_of_ble_eq_true rfl⟩ hS (fun q h => h.elim) (fun r H locs hq _ hS => ?_)
    obtain ⟨q_2, rfl, hq_2, hP⟩ := hq
    refine W.eq (g2 := F0 m 19 ls [.int (bi q_2)]) rfl ?_
    refine b_bool_eq (tgt := 26) hx hb d_Sht_relate_19 (by decide) (fun c_3 => ?_) (fun c_3 => ?_)
    · refine lv_iconst (v := 0) hx hb d_Sht_relate_26 (by decide) ?_
      refine W.eq (g2 := F0 m 27 ls (.int (bi false) :: [])) rfl ?_
      exact t_S (As := [.int (bi false)]) (rest := []) hx hb hml hown hK hTh (k_Sht_need_T l htr D cA false rfl) t_399 t_1 t_397 t_398 yk_Sht_need ⟨Nat.le_of_ble_eq_true rfl, Nat.le_of_ble_eq_true rfl⟩ ⟨Nat.le_of_ble_eq_true rfl, Nat.le_of_ble_eq_true rfl⟩ trivial rfl hl.1 rfl (Nat.le_of_ble_eq_true rfl) d_Sht_relate_27 hS hex hlk hQ
    · exact absurd (hq_2.mp c_3) h0
theorem d_Sht_relate_22 : decode b_Sht_relate 22 = .ok (.iconst 1, 1) := by decide +kernel
theorem d_Sht_relate_23 : decode b_Sht_relate 23 = .ok (.goto 4, 3) := by decide +kernel
theorem d_Sht_relate_30 : decode b_Sht_relate 30 = .ok (.aload_n 0, 1) := by decide +kernel
theorem d_Sht_relate_31 : decode b_Sht_relate 31 = .ok (.getfield 127, 3) := by decide +kernel
theorem d_Sht_relate_34 : decode b_Sht_relate 34 = .ok (.bipush 12, 2) := by decide +kernel
theorem d_Sht_relate_36 : decode b_Sht_relate 36 = .ok (.if_icmp .ge 7, 3) := by decide +kernel
theorem d_Sht_relate_39 : decode b_Sht_relate 39 = .ok (.iconst 1, 1) := by decide +kernel
theorem d_Sht_relate_40 : decode b_Sht_relate 40 = .ok (.goto 4, 3) := by decide +kernel
theorem d_Sht_relate_43 : decode b_Sht_relate 43 = .ok (.iconst 0, 1) := by decide +kernel
theorem d_Sht_relate_44 : decode b_Sht_relate 44 = .ok (.invokestatic 77, 3) := by decide +kernel
set_option maxHeartbeats 4000000 in
set_option maxRecDepth 20000 in
theorem k_Sht_relate_T2 (l : Launch) (htr : l.stackTraces = false) (D : va_G) (cA : Nat → ClassId) (adr : Nat → Nat) (N : List Nat) (cn : Nat → va_E) (x : Nat → Int32) (dn : Bool) (h00 : cn 0 = .inr (1, SF adr x dn)) (hN0 : 0 ∈ N) (nn : Nat) (hv1 : (x 1).toInt = (nn : Int)) (hn10 : nn ≤ 10) (mm : Nat) (hv3 : (x 3).toInt = (mm : Int)) (xk xa xb xc : Int32) (h0 : RO nn xk.toInt xa.toInt xb.toInt xc.toInt) (h1 : mm = 12) : CtT l y_Sht_relate b_Sht_relate 5 (some .int) 9 D cA [.ref (adr 0), .int xk, .int xa, .int xb, .int xc] (fun H => va_P D classes (wl N adr cn) H) "java/lang/IllegalStateException" := by
  refine CtT.mk (by decide) (Nat.le_of_ble_eq_true rfl) ?_
  intro p e s m args below meth c Q H locs ls hx hb hr hml hlk hown hin hK hTh hex hQ hS hP hl
  have hl : lv_has ls 5 [(0, .ref (adr 0)), (1, .int xk), (2, .int xa), (3, .int xb), (4, .int xc)] := hl
  have hown : s.vm.findClass "RangeSheet" = some m.cls := hown
  refine lv_iload_n hx hb d_Sht_relate_0 rfl (lv_at hl 1 rfl) ?_
  refine lv_iconst (v := 0) hx hb d_Sht_relate_1 (by decide) ?_
  refine lv_bipush (v := 8) hx hb d_Sht_relate_2 (by decide) ?_
  refine r_wn_Sht hx hb hml hown hK hl.1 hS ⟨Nat.le_of_ble_eq_true rfl, Nat.le_of_ble_eq_true rfl⟩ ⟨Nat.le_of_ble_eq_true rfl, Nat.le_of_ble_eq_true rfl⟩ rfl kc_0 kc_8  d_Sht_relate_4 (Nat.le_of_ble_eq_true rfl) (fun locs hS => ?_)
  refine b_bool_eq (tgt := 26) hx hb d_Sht_relate_7 (by decide) (fun c_1 => ?_) (fun c_1 => ?_)
  · have hc_1 := of_decide_eq_false c_1
    exact absurd h0.1.1 (by omega)
  · have hc_1 := of_decide_eq_true c_1
    refine lv_aload_n hx hb d_Sht_relate_10 rfl (lv_at hl 0 rfl) ?_
    refine lv_iload_n hx hb d_Sht_relate_11 rfl (lv_at hl 1 rfl) ?_
    refine lv_iload_n hx hb d_Sht_relate_12 rfl (lv_at hl 2 rfl) ?_
    refine lv_iload_n hx hb d_Sht_relate_13 rfl (lv_at hl 3 rfl) ?_
    refine lv_iload hx hb d_Sht_relate_14 (lv_at hl 4 rfl) ?_
    refine x_V (As := [.int xk, .int xa, .int xb, .int xc]) (rest := []) hx hb hml hown hK (k_Sht_isGood l D cA adr N cn x dn h00 hN0 nn hv1 hn10 xk xa xb xc (by omega)) t_490 t_1 t_487 t_489 ts_8 yk_Sht_isGood ⟨Nat.le_of_ble_eq_true rfl, Nat.le_of_ble_eq_true rfl⟩ (w_rec hK hP hN0 h00 rfl) hP rfl hl.1 rfl (Nat.le_of_ble_eq_true rfl) d_Sht_relate_16 ⟨Nat.le_of_ble_eq_true rfl, Nat.le_of_ble_eq_true rfl⟩ hS (fun q h => h.elim) (fun r H locs hq _ hS => ?_)
    obtain ⟨q_2, rfl, hq_2, hP⟩ := hq
    refine W.eq (g2 := F0 m 19 ls [.int (bi q_2)]) rfl ?_
    refine b_bool_eq (tgt := 26) hx hb d_Sht_relate_19 (by decide) (fun c_3 => ?_) (fun c_3 => ?_)
    · have := hq_2.mpr h0; rw [c_3] at this; cases this
    · refine lv_iconst (v := 1) hx hb d_Sht_relate_22 (by decide) ?_
      refine lv_goto (tgt := 27) hx hb d_Sht_relate_23 (by decide) ?_
      refine W.eq (g2 := F0 m 27 ls (.int (bi true) :: [])) rfl ?_
      refine r_Sht_need hx hb hml hown hK hl.1 hS ⟨Nat.le_of_ble_eq_true rfl, Nat.le_of_ble_eq_true rfl⟩ ⟨Nat.le_of_ble_eq_true rfl, Nat.le_of_ble_eq_true rfl⟩ rfl d_Sht_relate_27 (Nat.le_of_ble_eq_true rfl) (fun locs hS => ?_)
      refine lv_aload_n hx hb d_Sht_relate_30 rfl (lv_at hl 0 rfl) ?_
      refine w_gf hx hb hK i_Sht hown hP hN0 h00 rfl 3 (by decide) t_88 rfl rfl d_Sht_relate_31 ?_
      refine lv_bipush (v := 12) hx hb d_Sht_relate_34 (by decide) ?_
      refine b_icmp_ge (tgt := 43) hx hb d_Sht_relate_36 (by decide) hv3 kc_12 (fun c_4 => ?_) (fun c_4 => ?_)
      · refine lv_iconst (v := 0) hx hb d_Sht_relate_43 (by decide) ?_
        refine W.eq (g2 := F0 m 44 ls (.int (bi false) :: [])) rfl ?_
        exact t_S (As := [.int (bi false)]) (rest := []) hx hb hml hown hK hTh (k_Sht_needRoom_T l htr D cA false rfl) t_464 t_1 t_462 t_463 yk_Sht_needRoom ⟨Nat.le_of_ble_eq_true rfl, Nat.le_of_ble_eq_true rfl⟩ ⟨Nat.le_of_ble_eq_true rfl, Nat.le_of_ble_eq_true rfl⟩ trivial rfl hl.1 rfl (Nat.le_of_ble_eq_true rfl) d_Sht_relate_44 hS hex hlk hQ
      · refine lv_iconst (v := 1) hx hb d_Sht_relate_39 (by decide) ?_
        refine lv_goto (tgt := 44) hx hb d_Sht_relate_40 (by decide) ?_
        exfalso; omega
theorem CP.fr2 {cA : Nat → ClassId} {adr : Nat → Nat} {cn : Nat → va_E} {I : Nat → Int32} {F : Nat → Nat → Int32} {mm : Nat} {x : Nat → Int32} {dn : Bool} {e : va_E} (h : CP cA adr cn I F mm x dn) : CP cA adr (va_up cn (56 + mm) e) I F mm x dn := by
  have hk : ∀ k, k < 56 + mm → va_up cn (56 + mm) e k = cn k := fun k hk => va_up_ne _ _ (by omega)
  obtain ⟨⟨r0, r1, r2, r3, r4⟩, hy, ⟨a2, a3, a4, a5, a6, a7⟩, ⟨c8, b8⟩, ⟨f11, g11, c11, b11, e11⟩, hb⟩ := h
  have kB : ∀ a f g c, BP cA adr cn a f g c → a + 2 < 56 → BP cA adr (va_up cn (56 + mm) e) a f g c := fun a f g c q hq => ⟨(hk a (by omega)).trans q.1, (hk (a + 1) (by omega)).trans q.2.1, (hk (a + 2) (by omega)).trans q.2.2⟩
  exact ⟨⟨(hk 0 (by omega)).trans r0, (hk 1 (by omega)).trans r1, r2, r3.fr (fun j h1 h2 => hk j (by omega)), fun r hr => (r4 r hr).fr (hk _ (by omega))⟩, hy, ⟨(hk 2 (by omega)).trans a2, (hk 3 (by omega)).trans a3, (hk 4 (by omega)).trans a4, (hk 5 (by omega)).trans a5, (hk 6 (by omega)).trans a6, (hk 7 (by omega)).trans a7⟩, ⟨c8, kB 8 _ _ _ b8 (by omega)⟩, ⟨f11, g11, c11, kB 11 _ _ _ b11 (by omega), e11⟩, fun d hd => by obtain ⟨f0, g0, c0, b0⟩ := hb d hd; exact ⟨f0, g0, c0, kB _ _ _ _ b0 (by omega)⟩⟩
theorem d_Sht_relate_47 : decode b_Sht_relate 47 = .ok (.aload_n 0, 1) := by decide +kernel
theorem d_Sht_relate_48 : decode b_Sht_relate 48 = .ok (.getfield 24, 3) := by decide +kernel
theorem d_Sht_relate_51 : decode b_Sht_relate 51 = .ok (.aload_n 0, 1) := by decide +kernel
theorem d_Sht_relate_52 : decode b_Sht_relate 52 = .ok (.getfield 127, 3) := by decide +kernel
theorem d_Sht_relate_55 : decode b_Sht_relate 55 = .ok (.aload_n 0, 1) := by decide +kernel
theorem d_Sht_relate_56 : decode b_Sht_relate 56 = .ok (.iload_n 1, 1) := by decide +kernel
theorem d_Sht_relate_57 : decode b_Sht_relate 57 = .ok (.iload_n 2, 1) := by decide +kernel
theorem d_Sht_relate_58 : decode b_Sht_relate 58 = .ok (.iload_n 3, 1) := by decide +kernel
theorem d_Sht_relate_59 : decode b_Sht_relate 59 = .ok (.iload 4, 2) := by decide +kernel
theorem d_Sht_relate_61 : decode b_Sht_relate 61 = .ok (.invokevirtual 130, 3) := by decide +kernel
set_option maxHeartbeats 4000000 in
set_option maxRecDepth 20000 in
theorem k_Sht_relate (l : Launch) (D : va_G) (cA : Nat → ClassId) (sz : Nat) (adr : Nat → Nat) (cn : Nat → va_E) (F : Nat → Nat → Int32) (I : Nat → Int32) (nn mm en mk0 : Nat) (x : Nat → Int32) (dn : Bool) (hCP : CP cA adr cn I F mm x dn) (hWF : WF I F nn mm en mk0) (xk xa xb xc : Int32) (h0 : RO nn xk.toInt xa.toInt xb.toInt xc.toInt) (h1 : mm < 12) : CtA l y_Sht_relate b_Sht_relate 5 (some .int) 11 1 10 D cA [.ref (adr 0), .int xk, .int xa, .int xb, .int xc] sz (wl (List.range (56 + mm)) adr cn) (fun r H => ∃ (z : Int32) (adr2 : Nat → Nat) (cn2 : Nat → va_E) (x2 : Nat → Int32), r = some (.int z) ∧ z.toInt = (mm : Int) ∧ (∀ k, k < 56 + mm → adr2 k = adr k) ∧ wI (List.range (56 + (mm + 1))) adr2 ∧ CP cA adr2 cn2 (va_up I 4 (Int32.ofInt ((mm : Int) + 1))) (G_rel F mm xk xa xb xc) (mm + 1) x2 dn ∧ va_P D classes (wl (List.range (56 + (mm + 1))) adr2 cn2) H ∧ ∀ n ∈ List.range (56 + (mm + 1)), va_A (wl (List.range (56 + mm)) adr cn) sz (adr2 n)) := by
  refine CtA.mk (by decide) (Nat.le_of_ble_eq_true rfl) ?_
  intro p e s m args below meth c Q A H locs ls hx hb hr hml hlk hown hin hK hQ hAe hA hsz hP hD hS hl
  have hl : lv_has ls 5 [(0, .ref (adr 0)), (1, .int xk), (2, .int xa), (3, .int xb), (4, .int xc)] := hl
  have hown : s.vm.findClass "RangeSheet" = some m.cls := hown
  have hNm : ∀ k, k < 56 + mm → k ∈ List.range (56 + mm) := fun k hk => List.mem_range.mpr hk
  have hWF0 := hWF
  have hCP0 := hCP
  obtain ⟨hW, hE, hen, ⟨hmk, hmke⟩, htd, hsp, hsd, hset, hgd⟩ := hWF
  obtain ⟨hSR, ⟨hx1, hx3, hx8, hx9, hx11, hx14, hx18⟩, ⟨hc2, hc3, hc4, hc5, hc6, hc7⟩, ⟨cf, hBf⟩, ⟨fn0, gn0, cn0, hBn, hBne⟩, hBx⟩ := hCP
  obtain ⟨f, g, ch, hB⟩ := hBx 0 (by omega)
  have hB : BP cA adr cn 14 f g ch := hB
  have hn10 := hW.1
  have hm12 := hW.2.1
  have hen12 := hE.1
  have hv1 : (x 1).toInt = (nn : Int) := by rw [hx1]; exact hW.2.2.1
  have hv8 : (x 8).toInt = (en : Int) := by rw [hx8]; exact hen
  have hv9 : (x 9).toInt = (mk0 : Int) := by rw [hx9]; exact hmk
  have hN0 : 0 ∈ List.range (56 + mm) := hNm 0 (by omega)
  refine lv_iload_n hx hb d_Sht_relate_0 rfl (lv_at hl 1 rfl) ?_
  refine lv_iconst (v := 0) hx hb d_Sht_relate_1 (by decide) ?_
  refine lv_bipush (v := 8) hx hb d_Sht_relate_2 (by decide) ?_
  refine r_wn_Sht hx hb hml hown hK hl.1 hS ⟨Nat.le_of_ble_eq_true rfl, Nat.le_of_ble_eq_true rfl⟩ ⟨Nat.le_of_ble_eq_true rfl, Nat.le_of_ble_eq_true rfl⟩ rfl kc_0 kc_8  d_Sht_relate_4 (Nat.le_of_ble_eq_true rfl) (fun locs hS => ?_)
  refine b_bool_eq (tgt := 26) hx hb d_Sht_relate_7 (by decide) (fun c_1 => ?_) (fun c_1 => ?_)
  · have hc_1 := of_decide_eq_false c_1
    exact absurd h0.1.1 (by omega)
  · have hc_1 := of_decide_eq_true c_1
    refine lv_aload_n hx hb d_Sht_relate_10 rfl (lv_at hl 0 rfl) ?_
    refine lv_iload_n hx hb d_Sht_relate_11 rfl (lv_at hl 1 rfl) ?_
    refine lv_iload_n hx hb d_Sht_relate_12 rfl (lv_at hl 2 rfl) ?_
    refine lv_iload_n hx hb d_Sht_relate_13 rfl (lv_at hl 3 rfl) ?_
    refine lv_iload hx hb d_Sht_relate_14 (lv_at hl 4 rfl) ?_
    refine x_V (As := [.int xk, .int xa, .int xb, .int xc]) (rest := []) hx hb hml hown hK (k_Sht_isGood l D cA adr (List.range (56 + mm)) cn x dn hSR.1 (hNm 0 (by omega)) nn hv1 hn10 xk xa xb xc (by omega)) t_490 t_1 t_487 t_489 ts_8 yk_Sht_isGood ⟨Nat.le_of_ble_eq_true rfl, Nat.le_of_ble_eq_true rfl⟩ (w_rec hK hP (hNm 0 (by omega)) hSR.1 rfl) hP rfl hl.1 rfl (Nat.le_of_ble_eq_true rfl) d_Sht_relate_16 ⟨Nat.le_of_ble_eq_true rfl, Nat.le_of_ble_eq_true rfl⟩ hS (fun q h => h.elim) (fun r H locs hq _ hS => ?_)
    obtain ⟨q_2, rfl, hq_2, hP⟩ := hq
    refine W.eq (g2 := F0 m 19 ls [.int (bi q_2)]) rfl ?_
    refine b_bool_eq (tgt := 26) hx hb d_Sht_relate_19 (by decide) (fun c_3 => ?_) (fun c_3 => ?_)
    · have := hq_2.mpr h0; rw [c_3] at this; cases this
    · refine lv_iconst (v := 1) hx hb d_Sht_relate_22 (by decide) ?_
      refine lv_goto (tgt := 27) hx hb d_Sht_relate_23 (by decide) ?_
      refine W.eq (g2 := F0 m 27 ls (.int (bi true) :: [])) rfl ?_
      refine r_Sht_need hx hb hml hown hK hl.1 hS ⟨Nat.le_of_ble_eq_true rfl, Nat.le_of_ble_eq_true rfl⟩ ⟨Nat.le_of_ble_eq_true rfl, Nat.le_of_ble_eq_true rfl⟩ rfl d_Sht_relate_27 (Nat.le_of_ble_eq_true rfl) (fun locs hS => ?_)
      refine lv_aload_n hx hb d_Sht_relate_30 rfl (lv_at hl 0 rfl) ?_
      refine w_gf hx hb hK i_Sht hown hP (hNm 0 (by omega)) hSR.1 rfl 3 (by decide) t_88 rfl rfl d_Sht_relate_31 ?_
      refine lv_bipush (v := 12) hx hb d_Sht_relate_34 (by decide) ?_
      refine b_icmp_ge (tgt := 43) hx hb d_Sht_relate_36 (by decide) hSR.2.2.1 kc_12 (fun c_4 => ?_) (fun c_4 => ?_)
      · refine lv_iconst (v := 0) hx hb d_Sht_relate_43 (by decide) ?_
        exfalso; omega
      · refine lv_iconst (v := 1) hx hb d_Sht_relate_39 (by decide) ?_
        refine lv_goto (tgt := 44) hx hb d_Sht_relate_40 (by decide) ?_
        refine W.eq (g2 := F0 m 44 ls (.int (bi true) :: [])) rfl ?_
        refine r_Sht_needRoom hx hb hml hown hK hl.1 hS ⟨Nat.le_of_ble_eq_true rfl, Nat.le_of_ble_eq_true rfl⟩ ⟨Nat.le_of_ble_eq_true rfl, Nat.le_of_ble_eq_true rfl⟩ rfl d_Sht_relate_44 (Nat.le_of_ble_eq_true rfl) (fun locs hS => ?_)
        refine lv_aload_n hx hb d_Sht_relate_47 rfl (lv_at hl 0 rfl) ?_
        refine w_gf hx hb hK i_Sht hown hP (hNm 0 (by omega)) hSR.1 rfl 2 (by decide) t_87 rfl rfl d_Sht_relate_48 ?_
        refine lv_aload_n hx hb d_Sht_relate_51 rfl (lv_at hl 0 rfl) ?_
        refine w_gf hx hb hK i_Sht hown hP (hNm 0 (by omega)) hSR.1 rfl 3 (by decide) t_88 rfl rfl d_Sht_relate_52 ?_
        refine lv_aload_n hx hb d_Sht_relate_55 rfl (lv_at hl 0 rfl) ?_
        refine lv_iload_n hx hb d_Sht_relate_56 rfl (lv_at hl 1 rfl) ?_
        refine lv_iload_n hx hb d_Sht_relate_57 rfl (lv_at hl 2 rfl) ?_
        refine lv_iload_n hx hb d_Sht_relate_58 rfl (lv_at hl 3 rfl) ?_
        refine lv_iload hx hb d_Sht_relate_59 (lv_at hl 4 rfl) ?_
        have hc8 : xk.toInt = 8 → 0 ≤ xc.toInt ∧ xc.toInt < 3 := h0.1.2.2.2.2.1
        refine l_V (As := [.int xk, .int xa, .int xb, .int xc]) (rest := [.int (x 3), .ref (adr 1)]) hx hb hml hown hK (k_Sht_make l D cA H.size adr (List.range (56 + mm)) cn x dn hSR.1 hN0 hc2 (hNm 2 (by omega)) xk xa xb xc h0.1.1 hc8) t_498 t_1 t_495 t_497 ts_10 yk_Sht_make ⟨Nat.le_of_ble_eq_true rfl, Nat.le_of_ble_eq_true rfl⟩ (w_rec hK hP hN0 hSR.1 rfl) hP hD hS hA rfl hl.1 rfl (Nat.le_of_ble_eq_true rfl) d_Sht_relate_61 ⟨Nat.le_of_ble_eq_true rfl, Nat.le_of_ble_eq_true rfl⟩ (fun r H locs hq hFc _ hS => ?_)
        obtain ⟨q, rfl, hPx, hDx⟩ := hq
        have hDx := hDx.weaken (fun _ _ _ h => hFc _ h)
        rw [wl_push (n := 56 + mm) (by simp), ← List.range_succ] at hPx hDx
        obtain ⟨adr2, ha2⟩ : ∃ a : Nat → Nat, a = va_up adr (56 + mm) q := ⟨_, rfl⟩
        rw [← ha2] at hPx hDx
        have hae : ∀ k, k ≠ 56 + mm → adr2 k = adr k := fun k hk => by rw [ha2, va_up_ne _ _ hk]
        have hqe : adr2 (56 + mm) = q := by rw [ha2, va_up_self]
        have hCP2 := (hCP0.fr2 (e := relE adr xk.toInt xa xb xc)).adr (adr' := adr2) hW (fun k hk => hae k (by omega))
        refine W.eq (g2 := F0 m 64 ls [.ref (adr2 (56 + mm)), .int (x 3), .ref (adr2 1)]) (by rw [hqe, hae 1 (by omega)]; rfl) ?_
        have hl2 : lv_has ls 5 ((0, .ref (adr2 0)) :: [(1, .int xk), (2, .int xa), (3, .int xb), (4, .int xc)]) := by rw [hae 0 (by omega)]; exact hl
        refine rel_tail hx hb hr hlk hown hK hQ (wI_of List.nodup_range hDx) hPx hS (wA_of hDx) (fun k hk => List.mem_range.mpr hk) h1 hCP2 hSR.2.2.1 (by rw [va_up_self]; exact (relE_adr (fun j hj => hae j (by omega)) hc8).symm) h0.1.1 hl2 (fun z H1 cn' y hz hC hP1 => ?_)
        exact ⟨z, adr2, cn', y, rfl, hz, fun k hk => hae k (by omega), wI_of List.nodup_range hDx, hC, hP1, hAe ▸ wA_of hDx⟩
