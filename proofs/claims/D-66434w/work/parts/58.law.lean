/-! THE CLAIM OUT OF ONE WALK OF THE LAW'S BODY. Your part is whole_start (and what it stands on); all else here is the same for every law, but numbers. -/
def R_law : String := "RangeSheetLaw"
def lw_P (b : Addr) (xs : List Int32) (args : Array Value) (s : State) : Prop := args = #[.ref b] ∧ s.IntsAt b xs ∧ xs.length ≤ 2560 ∧ (Jvm.Cond.and given_1 narrow_1).before args s = true
def lw_Q (_ : Array Value) (s : State) (o : Outcome) (t : State) : Prop := o = .returned (some (.int 1)) ∧ Framed s o t [] 621396 7231917
def lw_Z (below : List Frame) (a : Array Value) (s : State) : State → Prop := fun t => ∃ o, t.status = .running ∧ Ended t below o ∧ lw_Q a s o t
/-- the law's own end, with 1 on the stack, nothing written that was there before, its room as the claim has it -/
theorem lw_ret {p : Program} {l : Launch} {e : Env} {s : State} {m : MethodId} {below : List Frame} {meth : Method} {c : Code} {b : Nat} (hx : p.tables.exec = Jvm.exec) (hb : c.code = code) (hr : meth.sig.returnType = ret) (hlocks : meth.locks = false) {pc : Nat} {H : Heap} {ls : Array Slot} (hdg : decode code pc = .ok (.ireturn, 1)) : W p l e room_1 s m #[Value.ref b] below meth c H [] 621396 7231917 (lw_Z below #[Value.ref b] s) (F0 m pc ls [.int 1]) := by
  intro T hT X
  obtain ⟨fs, hret, hrun, hended, hW, hframe⟩ := X.leave (v := some (.int 1)) (hlocks := hlocks) (fun h => by rw [hr] at h; cases h)
  have hmeth' : T.vm.method? m = some meth := X.method'
  refine ⟨T.setFrames fs, ?_, .returned (some (.int 1)), hrun, hended, rfl, ⟨_, rfl⟩, hW, hframe⟩
  jvm_step X.here [X.here.top, hx, hb, hdg, hmeth', hr, ret, narrow_b1]
  (try refine ⟨rfl, ?_⟩); (try refine ⟨rfl, ?_⟩)
  first | (intro acts; rw [hret _ acts rfl rfl rfl]) | rw [hret _ _ rfl rfl rfl]
  exact Steps.refl _
/-- what holds at the law's entry: the machine, the code, the tables' words (any of lw_tbl by 'hts w (by decide +kernel)'), the script of L ints xs at the cell b, what the Statement gives of the start (any of its parts by flat_of_before) -/
def lw_At (p : Program) (s : State) (m : MethodId) (meth : Method) (c : Code) (b L : Nat) (xs : Nat → Int32) : Prop :=
  p.tables.exec = Jvm.exec ∧ c.code = code ∧ meth.sig.returnType = ret ∧ c.maxLocals = 7 ∧ s.vm.findClass R_law = some m.cls ∧ (∀ w ∈ lw_tbl, w.before #[Value.ref b] s = true) ∧ va_X b L xs s s.heap ∧ b < s.heap.size ∧ meth.locks = false ∧ (Jvm.Cond.and given_1 narrow_1).before #[Value.ref b] s = true
theorem fnd_res {F : Nat → Nat → Int32} {nn k : Nat} {r : Int × Nat × Bx} (hk : k < nn) (h : r.1 = 1 → ∀ k, k < nn → -100 ≤ r.2.2.1 k ∧ r.2.2.1 k ≤ 100) : (if r.1 = 1 then (G_fnd F nn r 33 k).toInt else -1000) = (if r.1 = 1 then r.2.2.1 k else -1000) := by
  by_cases q : r.1 = 1
  · rw [if_pos q, if_pos q]
    show ((if r.1 = 1 then (fun k => if k < nn then Int32.ofInt (r.2.2.1 k) else F 33 k) else F 33) k).toInt = _
    rw [if_pos q]
    simp only [if_pos hk]
    exact ofI32 (h q k hk)
  · rw [if_neg q, if_neg q]
theorem i32_eq {a b : Int32} (h : a.toInt = b.toInt) : a = b := Int32.toInt_inj.mp h
theorem if01 {p : Prop} [Decidable p] (h : (if p then (0 : Int) else 1) = 0) : p := by
  by_cases q : p
  · exact q
  · rw [if_neg q] at h; cases h
theorem if01n {p : Prop} [Decidable p] (h : ¬ (if p then (0 : Int) else 1) = 0) : ¬ p := fun q => h (if_pos q)
theorem bc_0 {nn : Nat} {lo hh : Int} (h : b_cell nn lo hh = 0) : (-100 ≤ lo ∧ hh ≤ 100 ∧ lo ≤ hh) ∧ ¬ nn = 10 := by
  unfold b_cell at h
  split at h
  · cases h
  · split at h
    · cases h
    · rename_i q1 q2; exact ⟨Classical.not_not.mp q1, q2⟩
theorem bs_0 {nn en : Nat} {k lo hh : Int} (h : b_set nn en k lo hh = 0) : ((0 ≤ k ∧ k < nn) ∧ -100 ≤ lo ∧ hh ≤ 100 ∧ lo ≤ hh) ∧ ¬ en = 12 := by
  unfold b_set at h
  split at h
  · cases h
  · split at h
    · cases h
    · rename_i q1 q2; exact ⟨Classical.not_not.mp q1, q2⟩
theorem br_0 {nn mm : Nat} {k a b c : Int} (h : b_rel nn mm k a b c = 0) : RO nn k a b c ∧ ¬ mm = 12 := by
  by_cases q : RO nn k a b c
  · refine ⟨q, fun hm => ?_⟩
    rw [b_rel_2 q hm] at h
    cases h
  · rw [b_rel_1 q] at h
    cases h
theorem d_Law_law_23 : decode b_Law_law 23 = .ok (.iload 4, 2) := by decide +kernel
theorem d_Law_law_25 : decode b_Law_law 25 = .ok (.aload_n 0, 1) := by decide +kernel
theorem d_Law_law_26 : decode b_Law_law 26 = .ok (.arraylength, 1) := by decide +kernel
theorem d_Law_law_27 : decode b_Law_law 27 = .ok (.iconst 5, 1) := by decide +kernel
theorem d_Law_law_28 : decode b_Law_law 28 = .ok (.isub, 1) := by decide +kernel
theorem d_Law_law_29 : decode b_Law_law 29 = .ok (.if_icmp .gt 907, 3) := by decide +kernel
theorem d_Law_law_32 : decode b_Law_law 32 = .ok (.aload_n 0, 1) := by decide +kernel
theorem d_Law_law_33 : decode b_Law_law 33 = .ok (.iload 4, 2) := by decide +kernel
theorem d_Law_law_35 : decode b_Law_law 35 = .ok (.iaload, 1) := by decide +kernel
theorem d_Law_law_36 : decode b_Law_law 36 = .ok (.bipush 31, 2) := by decide +kernel
theorem d_Law_law_38 : decode b_Law_law 38 = .ok (.iand, 1) := by decide +kernel
theorem d_Law_law_39 : decode b_Law_law 39 = .ok (.tableswitch 891 0 16 #[81, 149, 241, 294, 343, 423, 476, 489, 514, 539, 552, 636, 692, 760, 828, 841, 866], 81) := by decide +kernel
theorem d_Law_law_120 : decode b_Law_law 120 = .ok (.aload_n 1, 1) := by decide +kernel
theorem d_Law_law_121 : decode b_Law_law 121 = .ok (.aload_n 0, 1) := by decide +kernel
theorem d_Law_law_122 : decode b_Law_law 122 = .ok (.iload 4, 2) := by decide +kernel
theorem d_Law_law_124 : decode b_Law_law 124 = .ok (.iconst 1, 1) := by decide +kernel
theorem d_Law_law_125 : decode b_Law_law 125 = .ok (.iadd, 1) := by decide +kernel
theorem d_Law_law_126 : decode b_Law_law 126 = .ok (.iaload, 1) := by decide +kernel
theorem d_Law_law_127 : decode b_Law_law 127 = .ok (.aload_n 0, 1) := by decide +kernel
theorem d_Law_law_128 : decode b_Law_law 128 = .ok (.iload 4, 2) := by decide +kernel
theorem d_Law_law_130 : decode b_Law_law 130 = .ok (.iconst 2, 1) := by decide +kernel
theorem d_Law_law_131 : decode b_Law_law 131 = .ok (.iadd, 1) := by decide +kernel
theorem d_Law_law_132 : decode b_Law_law 132 = .ok (.iaload, 1) := by decide +kernel
theorem d_Law_law_133 : decode b_Law_law 133 = .ok (.aload_n 3, 1) := by decide +kernel
theorem d_Law_law_134 : decode b_Law_law 134 = .ok (.invokestatic 43, 3) := by decide +kernel
theorem d_Law_law_137 : decode b_Law_law 137 = .ok (.istore 5, 2) := by decide +kernel
theorem d_Law_law_139 : decode b_Law_law 139 = .ok (.aload_n 2, 1) := by decide +kernel
theorem d_Law_law_140 : decode b_Law_law 140 = .ok (.aload_n 0, 1) := by decide +kernel
theorem d_Law_law_141 : decode b_Law_law 141 = .ok (.iload 4, 2) := by decide +kernel
theorem d_Law_law_143 : decode b_Law_law 143 = .ok (.iconst 1, 1) := by decide +kernel
theorem d_Law_law_144 : decode b_Law_law 144 = .ok (.iadd, 1) := by decide +kernel
theorem d_Law_law_145 : decode b_Law_law 145 = .ok (.iaload, 1) := by decide +kernel
theorem d_Law_law_146 : decode b_Law_law 146 = .ok (.aload_n 0, 1) := by decide +kernel
theorem d_Law_law_147 : decode b_Law_law 147 = .ok (.iload 4, 2) := by decide +kernel
theorem d_Law_law_149 : decode b_Law_law 149 = .ok (.iconst 2, 1) := by decide +kernel
theorem d_Law_law_150 : decode b_Law_law 150 = .ok (.iadd, 1) := by decide +kernel
theorem d_Law_law_151 : decode b_Law_law 151 = .ok (.iaload, 1) := by decide +kernel
theorem d_Law_law_152 : decode b_Law_law 152 = .ok (.invokevirtual 48, 3) := by decide +kernel
theorem d_Law_law_155 : decode b_Law_law 155 = .ok (.istore 6, 2) := by decide +kernel
theorem d_Law_law_157 : decode b_Law_law 157 = .ok (.aload_n 2, 1) := by decide +kernel
theorem d_Law_law_158 : decode b_Law_law 158 = .ok (.invokevirtual 49, 3) := by decide +kernel
theorem d_Law_law_161 : decode b_Law_law 161 = .ok (.iload 5, 2) := by decide +kernel
theorem d_Law_law_163 : decode b_Law_law 163 = .ok (.if_icmp .eq 5, 3) := by decide +kernel
theorem d_Law_law_168 : decode b_Law_law 168 = .ok (.iload 5, 2) := by decide +kernel
theorem d_Law_law_170 : decode b_Law_law 170 = .ok (.ifCond .ne 15, 3) := by decide +kernel
theorem d_Law_law_173 : decode b_Law_law 173 = .ok (.aload_n 3, 1) := by decide +kernel
theorem d_Law_law_174 : decode b_Law_law 174 = .ok (.iconst 0, 1) := by decide +kernel
theorem d_Law_law_175 : decode b_Law_law 175 = .ok (.laload, 1) := by decide +kernel
theorem d_Law_law_176 : decode b_Law_law 176 = .ok (.iload 6, 2) := by decide +kernel
theorem d_Law_law_178 : decode b_Law_law 178 = .ok (.i2l, 1) := by decide +kernel
theorem d_Law_law_179 : decode b_Law_law 179 = .ok (.lcmp, 1) := by decide +kernel
theorem d_Law_law_180 : decode b_Law_law 180 = .ok (.ifCond .eq 5, 3) := by decide +kernel
theorem d_Law_law_185 : decode b_Law_law 185 = .ok (.goto 745, 3) := by decide +kernel
theorem d_Law_law_188 : decode b_Law_law 188 = .ok (.aload_n 1, 1) := by decide +kernel
theorem d_Law_law_189 : decode b_Law_law 189 = .ok (.aload_n 0, 1) := by decide +kernel
theorem d_Law_law_190 : decode b_Law_law 190 = .ok (.iload 4, 2) := by decide +kernel
theorem d_Law_law_192 : decode b_Law_law 192 = .ok (.iconst 1, 1) := by decide +kernel
theorem d_Law_law_193 : decode b_Law_law 193 = .ok (.iadd, 1) := by decide +kernel
theorem d_Law_law_194 : decode b_Law_law 194 = .ok (.iaload, 1) := by decide +kernel
theorem d_Law_law_195 : decode b_Law_law 195 = .ok (.aload_n 0, 1) := by decide +kernel
theorem d_Law_law_196 : decode b_Law_law 196 = .ok (.iload 4, 2) := by decide +kernel
theorem d_Law_law_198 : decode b_Law_law 198 = .ok (.iconst 2, 1) := by decide +kernel
theorem d_Law_law_199 : decode b_Law_law 199 = .ok (.iadd, 1) := by decide +kernel
theorem d_Law_law_200 : decode b_Law_law 200 = .ok (.iaload, 1) := by decide +kernel
theorem d_Law_law_201 : decode b_Law_law 201 = .ok (.aload_n 0, 1) := by decide +kernel
theorem d_Law_law_202 : decode b_Law_law 202 = .ok (.iload 4, 2) := by decide +kernel
theorem d_Law_law_204 : decode b_Law_law 204 = .ok (.iconst 3, 1) := by decide +kernel
theorem d_Law_law_205 : decode b_Law_law 205 = .ok (.iadd, 1) := by decide +kernel
theorem d_Law_law_206 : decode b_Law_law 206 = .ok (.iaload, 1) := by decide +kernel
theorem d_Law_law_207 : decode b_Law_law 207 = .ok (.aload_n 0, 1) := by decide +kernel
theorem d_Law_law_208 : decode b_Law_law 208 = .ok (.iload 4, 2) := by decide +kernel
theorem d_Law_law_210 : decode b_Law_law 210 = .ok (.iconst 4, 1) := by decide +kernel
theorem d_Law_law_211 : decode b_Law_law 211 = .ok (.iadd, 1) := by decide +kernel
theorem d_Law_law_212 : decode b_Law_law 212 = .ok (.iaload, 1) := by decide +kernel
theorem d_Law_law_213 : decode b_Law_law 213 = .ok (.aload_n 3, 1) := by decide +kernel
theorem d_Law_law_214 : decode b_Law_law 214 = .ok (.invokestatic 53, 3) := by decide +kernel
theorem d_Law_law_217 : decode b_Law_law 217 = .ok (.istore 5, 2) := by decide +kernel
theorem d_Law_law_219 : decode b_Law_law 219 = .ok (.aload_n 2, 1) := by decide +kernel
theorem d_Law_law_220 : decode b_Law_law 220 = .ok (.aload_n 0, 1) := by decide +kernel
theorem d_Law_law_221 : decode b_Law_law 221 = .ok (.iload 4, 2) := by decide +kernel
theorem d_Law_law_223 : decode b_Law_law 223 = .ok (.iconst 1, 1) := by decide +kernel
theorem d_Law_law_224 : decode b_Law_law 224 = .ok (.iadd, 1) := by decide +kernel
theorem d_Law_law_225 : decode b_Law_law 225 = .ok (.iaload, 1) := by decide +kernel
theorem d_Law_law_226 : decode b_Law_law 226 = .ok (.aload_n 0, 1) := by decide +kernel
theorem d_Law_law_227 : decode b_Law_law 227 = .ok (.iload 4, 2) := by decide +kernel
theorem d_Law_law_229 : decode b_Law_law 229 = .ok (.iconst 2, 1) := by decide +kernel
theorem d_Law_law_230 : decode b_Law_law 230 = .ok (.iadd, 1) := by decide +kernel
theorem d_Law_law_231 : decode b_Law_law 231 = .ok (.iaload, 1) := by decide +kernel
theorem d_Law_law_232 : decode b_Law_law 232 = .ok (.aload_n 0, 1) := by decide +kernel
theorem d_Law_law_233 : decode b_Law_law 233 = .ok (.iload 4, 2) := by decide +kernel
theorem d_Law_law_235 : decode b_Law_law 235 = .ok (.iconst 3, 1) := by decide +kernel
theorem d_Law_law_236 : decode b_Law_law 236 = .ok (.iadd, 1) := by decide +kernel
theorem d_Law_law_237 : decode b_Law_law 237 = .ok (.iaload, 1) := by decide +kernel
theorem d_Law_law_238 : decode b_Law_law 238 = .ok (.aload_n 0, 1) := by decide +kernel
theorem d_Law_law_239 : decode b_Law_law 239 = .ok (.iload 4, 2) := by decide +kernel
theorem d_Law_law_241 : decode b_Law_law 241 = .ok (.iconst 4, 1) := by decide +kernel
theorem d_Law_law_242 : decode b_Law_law 242 = .ok (.iadd, 1) := by decide +kernel
theorem d_Law_law_243 : decode b_Law_law 243 = .ok (.iaload, 1) := by decide +kernel
theorem d_Law_law_244 : decode b_Law_law 244 = .ok (.invokevirtual 56, 3) := by decide +kernel
theorem d_Law_law_247 : decode b_Law_law 247 = .ok (.istore 6, 2) := by decide +kernel
theorem d_Law_law_249 : decode b_Law_law 249 = .ok (.aload_n 2, 1) := by decide +kernel
theorem d_Law_law_250 : decode b_Law_law 250 = .ok (.invokevirtual 49, 3) := by decide +kernel
theorem d_Law_law_253 : decode b_Law_law 253 = .ok (.iload 5, 2) := by decide +kernel
theorem d_Law_law_255 : decode b_Law_law 255 = .ok (.if_icmp .eq 5, 3) := by decide +kernel
theorem d_Law_law_260 : decode b_Law_law 260 = .ok (.iload 5, 2) := by decide +kernel
theorem d_Law_law_262 : decode b_Law_law 262 = .ok (.ifCond .ne 15, 3) := by decide +kernel
theorem d_Law_law_265 : decode b_Law_law 265 = .ok (.aload_n 3, 1) := by decide +kernel
theorem d_Law_law_266 : decode b_Law_law 266 = .ok (.iconst 0, 1) := by decide +kernel
theorem d_Law_law_267 : decode b_Law_law 267 = .ok (.laload, 1) := by decide +kernel
theorem d_Law_law_268 : decode b_Law_law 268 = .ok (.iload 6, 2) := by decide +kernel
theorem d_Law_law_270 : decode b_Law_law 270 = .ok (.i2l, 1) := by decide +kernel
theorem d_Law_law_271 : decode b_Law_law 271 = .ok (.lcmp, 1) := by decide +kernel
theorem d_Law_law_272 : decode b_Law_law 272 = .ok (.ifCond .eq 5, 3) := by decide +kernel
theorem d_Law_law_277 : decode b_Law_law 277 = .ok (.goto 653, 3) := by decide +kernel
theorem d_Law_law_280 : decode b_Law_law 280 = .ok (.aload_n 1, 1) := by decide +kernel
theorem d_Law_law_281 : decode b_Law_law 281 = .ok (.aload_n 0, 1) := by decide +kernel
theorem d_Law_law_282 : decode b_Law_law 282 = .ok (.iload 4, 2) := by decide +kernel
theorem d_Law_law_284 : decode b_Law_law 284 = .ok (.iconst 1, 1) := by decide +kernel
theorem d_Law_law_285 : decode b_Law_law 285 = .ok (.iadd, 1) := by decide +kernel
theorem d_Law_law_286 : decode b_Law_law 286 = .ok (.iaload, 1) := by decide +kernel
theorem d_Law_law_287 : decode b_Law_law 287 = .ok (.aload_n 0, 1) := by decide +kernel
theorem d_Law_law_288 : decode b_Law_law 288 = .ok (.iload 4, 2) := by decide +kernel
theorem d_Law_law_290 : decode b_Law_law 290 = .ok (.iconst 2, 1) := by decide +kernel
theorem d_Law_law_291 : decode b_Law_law 291 = .ok (.iadd, 1) := by decide +kernel
theorem d_Law_law_292 : decode b_Law_law 292 = .ok (.iaload, 1) := by decide +kernel
theorem d_Law_law_293 : decode b_Law_law 293 = .ok (.ifCond .eq 7, 3) := by decide +kernel
theorem d_Law_law_296 : decode b_Law_law 296 = .ok (.iconst 1, 1) := by decide +kernel
theorem d_Law_law_297 : decode b_Law_law 297 = .ok (.goto 4, 3) := by decide +kernel
theorem d_Law_law_300 : decode b_Law_law 300 = .ok (.iconst 0, 1) := by decide +kernel
theorem d_Law_law_301 : decode b_Law_law 301 = .ok (.invokevirtual 57, 3) := by decide +kernel
theorem d_Law_law_304 : decode b_Law_law 304 = .ok (.aload_n 2, 1) := by decide +kernel
theorem d_Law_law_305 : decode b_Law_law 305 = .ok (.aload_n 0, 1) := by decide +kernel
theorem d_Law_law_306 : decode b_Law_law 306 = .ok (.iload 4, 2) := by decide +kernel
theorem d_Law_law_308 : decode b_Law_law 308 = .ok (.iconst 1, 1) := by decide +kernel
theorem d_Law_law_309 : decode b_Law_law 309 = .ok (.iadd, 1) := by decide +kernel
theorem d_Law_law_310 : decode b_Law_law 310 = .ok (.iaload, 1) := by decide +kernel
theorem d_Law_law_311 : decode b_Law_law 311 = .ok (.aload_n 0, 1) := by decide +kernel
theorem d_Law_law_312 : decode b_Law_law 312 = .ok (.iload 4, 2) := by decide +kernel
theorem d_Law_law_314 : decode b_Law_law 314 = .ok (.iconst 2, 1) := by decide +kernel
theorem d_Law_law_315 : decode b_Law_law 315 = .ok (.iadd, 1) := by decide +kernel
theorem d_Law_law_316 : decode b_Law_law 316 = .ok (.iaload, 1) := by decide +kernel
theorem d_Law_law_317 : decode b_Law_law 317 = .ok (.ifCond .eq 7, 3) := by decide +kernel
theorem d_Law_law_320 : decode b_Law_law 320 = .ok (.iconst 1, 1) := by decide +kernel
theorem d_Law_law_321 : decode b_Law_law 321 = .ok (.goto 4, 3) := by decide +kernel
theorem d_Law_law_324 : decode b_Law_law 324 = .ok (.iconst 0, 1) := by decide +kernel
theorem d_Law_law_325 : decode b_Law_law 325 = .ok (.invokevirtual 61, 3) := by decide +kernel
theorem d_Law_law_328 : decode b_Law_law 328 = .ok (.if_icmp .eq 602, 3) := by decide +kernel
theorem d_Law_law_333 : decode b_Law_law 333 = .ok (.aload_n 1, 1) := by decide +kernel
theorem d_Law_law_334 : decode b_Law_law 334 = .ok (.aload_n 0, 1) := by decide +kernel
theorem d_Law_law_335 : decode b_Law_law 335 = .ok (.iload 4, 2) := by decide +kernel
theorem d_Law_law_337 : decode b_Law_law 337 = .ok (.iconst 1, 1) := by decide +kernel
theorem d_Law_law_338 : decode b_Law_law 338 = .ok (.iadd, 1) := by decide +kernel
theorem d_Law_law_339 : decode b_Law_law 339 = .ok (.iaload, 1) := by decide +kernel
theorem d_Law_law_340 : decode b_Law_law 340 = .ok (.aload_n 0, 1) := by decide +kernel
theorem d_Law_law_341 : decode b_Law_law 341 = .ok (.iload 4, 2) := by decide +kernel
theorem d_Law_law_343 : decode b_Law_law 343 = .ok (.iconst 2, 1) := by decide +kernel
theorem d_Law_law_344 : decode b_Law_law 344 = .ok (.iadd, 1) := by decide +kernel
theorem d_Law_law_345 : decode b_Law_law 345 = .ok (.iaload, 1) := by decide +kernel
theorem d_Law_law_346 : decode b_Law_law 346 = .ok (.aload_n 0, 1) := by decide +kernel
theorem d_Law_law_347 : decode b_Law_law 347 = .ok (.iload 4, 2) := by decide +kernel
theorem d_Law_law_349 : decode b_Law_law 349 = .ok (.iconst 3, 1) := by decide +kernel
theorem d_Law_law_350 : decode b_Law_law 350 = .ok (.iadd, 1) := by decide +kernel
theorem d_Law_law_351 : decode b_Law_law 351 = .ok (.iaload, 1) := by decide +kernel
theorem d_Law_law_352 : decode b_Law_law 352 = .ok (.invokevirtual 62, 3) := by decide +kernel
theorem d_Law_law_355 : decode b_Law_law 355 = .ok (.aload_n 2, 1) := by decide +kernel
theorem d_Law_law_356 : decode b_Law_law 356 = .ok (.aload_n 0, 1) := by decide +kernel
theorem d_Law_law_357 : decode b_Law_law 357 = .ok (.iload 4, 2) := by decide +kernel
theorem d_Law_law_359 : decode b_Law_law 359 = .ok (.iconst 1, 1) := by decide +kernel
theorem d_Law_law_360 : decode b_Law_law 360 = .ok (.iadd, 1) := by decide +kernel
theorem d_Law_law_361 : decode b_Law_law 361 = .ok (.iaload, 1) := by decide +kernel
theorem d_Law_law_362 : decode b_Law_law 362 = .ok (.aload_n 0, 1) := by decide +kernel
theorem d_Law_law_363 : decode b_Law_law 363 = .ok (.iload 4, 2) := by decide +kernel
theorem d_Law_law_365 : decode b_Law_law 365 = .ok (.iconst 2, 1) := by decide +kernel
theorem d_Law_law_366 : decode b_Law_law 366 = .ok (.iadd, 1) := by decide +kernel
theorem d_Law_law_367 : decode b_Law_law 367 = .ok (.iaload, 1) := by decide +kernel
theorem d_Law_law_368 : decode b_Law_law 368 = .ok (.aload_n 0, 1) := by decide +kernel
theorem d_Law_law_369 : decode b_Law_law 369 = .ok (.iload 4, 2) := by decide +kernel
theorem d_Law_law_371 : decode b_Law_law 371 = .ok (.iconst 3, 1) := by decide +kernel
theorem d_Law_law_372 : decode b_Law_law 372 = .ok (.iadd, 1) := by decide +kernel
theorem d_Law_law_373 : decode b_Law_law 373 = .ok (.iaload, 1) := by decide +kernel
theorem d_Law_law_374 : decode b_Law_law 374 = .ok (.invokevirtual 65, 3) := by decide +kernel
theorem d_Law_law_377 : decode b_Law_law 377 = .ok (.if_icmp .eq 553, 3) := by decide +kernel
theorem d_Law_law_382 : decode b_Law_law 382 = .ok (.aload_n 1, 1) := by decide +kernel
theorem d_Law_law_383 : decode b_Law_law 383 = .ok (.aload_n 0, 1) := by decide +kernel
theorem d_Law_law_384 : decode b_Law_law 384 = .ok (.iload 4, 2) := by decide +kernel
theorem d_Law_law_386 : decode b_Law_law 386 = .ok (.iconst 1, 1) := by decide +kernel
theorem d_Law_law_387 : decode b_Law_law 387 = .ok (.iadd, 1) := by decide +kernel
theorem d_Law_law_388 : decode b_Law_law 388 = .ok (.iaload, 1) := by decide +kernel
theorem d_Law_law_389 : decode b_Law_law 389 = .ok (.aload_n 0, 1) := by decide +kernel
theorem d_Law_law_390 : decode b_Law_law 390 = .ok (.iload 4, 2) := by decide +kernel
theorem d_Law_law_392 : decode b_Law_law 392 = .ok (.iconst 2, 1) := by decide +kernel
theorem d_Law_law_393 : decode b_Law_law 393 = .ok (.iadd, 1) := by decide +kernel
theorem d_Law_law_394 : decode b_Law_law 394 = .ok (.iaload, 1) := by decide +kernel
theorem d_Law_law_395 : decode b_Law_law 395 = .ok (.aload_n 0, 1) := by decide +kernel
theorem d_Law_law_396 : decode b_Law_law 396 = .ok (.iload 4, 2) := by decide +kernel
theorem d_Law_law_398 : decode b_Law_law 398 = .ok (.iconst 3, 1) := by decide +kernel
theorem d_Law_law_399 : decode b_Law_law 399 = .ok (.iadd, 1) := by decide +kernel
theorem d_Law_law_400 : decode b_Law_law 400 = .ok (.iaload, 1) := by decide +kernel
theorem d_Law_law_401 : decode b_Law_law 401 = .ok (.aload_n 3, 1) := by decide +kernel
theorem d_Law_law_402 : decode b_Law_law 402 = .ok (.invokestatic 66, 3) := by decide +kernel
theorem d_Law_law_405 : decode b_Law_law 405 = .ok (.istore 5, 2) := by decide +kernel
theorem d_Law_law_407 : decode b_Law_law 407 = .ok (.aload_n 2, 1) := by decide +kernel
theorem d_Law_law_408 : decode b_Law_law 408 = .ok (.aload_n 0, 1) := by decide +kernel
theorem d_Law_law_409 : decode b_Law_law 409 = .ok (.iload 4, 2) := by decide +kernel
theorem d_Law_law_411 : decode b_Law_law 411 = .ok (.iconst 1, 1) := by decide +kernel
theorem d_Law_law_412 : decode b_Law_law 412 = .ok (.iadd, 1) := by decide +kernel
theorem d_Law_law_413 : decode b_Law_law 413 = .ok (.iaload, 1) := by decide +kernel
theorem d_Law_law_414 : decode b_Law_law 414 = .ok (.aload_n 0, 1) := by decide +kernel
theorem d_Law_law_415 : decode b_Law_law 415 = .ok (.iload 4, 2) := by decide +kernel
theorem d_Law_law_417 : decode b_Law_law 417 = .ok (.iconst 2, 1) := by decide +kernel
theorem d_Law_law_418 : decode b_Law_law 418 = .ok (.iadd, 1) := by decide +kernel
theorem d_Law_law_419 : decode b_Law_law 419 = .ok (.iaload, 1) := by decide +kernel
theorem d_Law_law_420 : decode b_Law_law 420 = .ok (.aload_n 0, 1) := by decide +kernel
theorem d_Law_law_421 : decode b_Law_law 421 = .ok (.iload 4, 2) := by decide +kernel
theorem d_Law_law_423 : decode b_Law_law 423 = .ok (.iconst 3, 1) := by decide +kernel
theorem d_Law_law_424 : decode b_Law_law 424 = .ok (.iadd, 1) := by decide +kernel
theorem d_Law_law_425 : decode b_Law_law 425 = .ok (.iaload, 1) := by decide +kernel
theorem d_Law_law_426 : decode b_Law_law 426 = .ok (.invokevirtual 69, 3) := by decide +kernel
theorem d_Law_law_429 : decode b_Law_law 429 = .ok (.istore 6, 2) := by decide +kernel
theorem d_Law_law_431 : decode b_Law_law 431 = .ok (.aload_n 2, 1) := by decide +kernel
theorem d_Law_law_432 : decode b_Law_law 432 = .ok (.invokevirtual 49, 3) := by decide +kernel
theorem d_Law_law_435 : decode b_Law_law 435 = .ok (.iload 5, 2) := by decide +kernel
theorem d_Law_law_437 : decode b_Law_law 437 = .ok (.if_icmp .eq 5, 3) := by decide +kernel
theorem d_Law_law_442 : decode b_Law_law 442 = .ok (.iload 5, 2) := by decide +kernel
theorem d_Law_law_444 : decode b_Law_law 444 = .ok (.ifCond .ne 15, 3) := by decide +kernel
theorem d_Law_law_447 : decode b_Law_law 447 = .ok (.aload_n 3, 1) := by decide +kernel
theorem d_Law_law_448 : decode b_Law_law 448 = .ok (.iconst 0, 1) := by decide +kernel
theorem d_Law_law_449 : decode b_Law_law 449 = .ok (.laload, 1) := by decide +kernel
theorem d_Law_law_450 : decode b_Law_law 450 = .ok (.iload 6, 2) := by decide +kernel
theorem d_Law_law_452 : decode b_Law_law 452 = .ok (.i2l, 1) := by decide +kernel
theorem d_Law_law_453 : decode b_Law_law 453 = .ok (.lcmp, 1) := by decide +kernel
theorem d_Law_law_454 : decode b_Law_law 454 = .ok (.ifCond .eq 5, 3) := by decide +kernel
theorem d_Law_law_459 : decode b_Law_law 459 = .ok (.goto 471, 3) := by decide +kernel
theorem d_Law_law_462 : decode b_Law_law 462 = .ok (.aload_n 1, 1) := by decide +kernel
theorem d_Law_law_463 : decode b_Law_law 463 = .ok (.aload_n 0, 1) := by decide +kernel
theorem d_Law_law_464 : decode b_Law_law 464 = .ok (.iload 4, 2) := by decide +kernel
theorem d_Law_law_466 : decode b_Law_law 466 = .ok (.iconst 1, 1) := by decide +kernel
theorem d_Law_law_467 : decode b_Law_law 467 = .ok (.iadd, 1) := by decide +kernel
theorem d_Law_law_468 : decode b_Law_law 468 = .ok (.iaload, 1) := by decide +kernel
theorem d_Law_law_469 : decode b_Law_law 469 = .ok (.aload_n 0, 1) := by decide +kernel
theorem d_Law_law_470 : decode b_Law_law 470 = .ok (.iload 4, 2) := by decide +kernel
theorem d_Law_law_472 : decode b_Law_law 472 = .ok (.iconst 2, 1) := by decide +kernel
theorem d_Law_law_473 : decode b_Law_law 473 = .ok (.iadd, 1) := by decide +kernel
theorem d_Law_law_474 : decode b_Law_law 474 = .ok (.iaload, 1) := by decide +kernel
theorem d_Law_law_475 : decode b_Law_law 475 = .ok (.ifCond .eq 7, 3) := by decide +kernel
theorem d_Law_law_478 : decode b_Law_law 478 = .ok (.iconst 1, 1) := by decide +kernel
theorem d_Law_law_479 : decode b_Law_law 479 = .ok (.goto 4, 3) := by decide +kernel
theorem d_Law_law_482 : decode b_Law_law 482 = .ok (.iconst 0, 1) := by decide +kernel
theorem d_Law_law_483 : decode b_Law_law 483 = .ok (.invokevirtual 70, 3) := by decide +kernel
theorem d_Law_law_486 : decode b_Law_law 486 = .ok (.aload_n 2, 1) := by decide +kernel
theorem d_Law_law_487 : decode b_Law_law 487 = .ok (.aload_n 0, 1) := by decide +kernel
theorem d_Law_law_488 : decode b_Law_law 488 = .ok (.iload 4, 2) := by decide +kernel
theorem d_Law_law_490 : decode b_Law_law 490 = .ok (.iconst 1, 1) := by decide +kernel
theorem d_Law_law_491 : decode b_Law_law 491 = .ok (.iadd, 1) := by decide +kernel
theorem d_Law_law_492 : decode b_Law_law 492 = .ok (.iaload, 1) := by decide +kernel
theorem d_Law_law_493 : decode b_Law_law 493 = .ok (.aload_n 0, 1) := by decide +kernel
theorem d_Law_law_494 : decode b_Law_law 494 = .ok (.iload 4, 2) := by decide +kernel
theorem d_Law_law_496 : decode b_Law_law 496 = .ok (.iconst 2, 1) := by decide +kernel
theorem d_Law_law_497 : decode b_Law_law 497 = .ok (.iadd, 1) := by decide +kernel
theorem d_Law_law_498 : decode b_Law_law 498 = .ok (.iaload, 1) := by decide +kernel
theorem d_Law_law_499 : decode b_Law_law 499 = .ok (.ifCond .eq 7, 3) := by decide +kernel
theorem d_Law_law_502 : decode b_Law_law 502 = .ok (.iconst 1, 1) := by decide +kernel
theorem d_Law_law_503 : decode b_Law_law 503 = .ok (.goto 4, 3) := by decide +kernel
theorem d_Law_law_506 : decode b_Law_law 506 = .ok (.iconst 0, 1) := by decide +kernel
theorem d_Law_law_507 : decode b_Law_law 507 = .ok (.invokevirtual 73, 3) := by decide +kernel
theorem d_Law_law_510 : decode b_Law_law 510 = .ok (.if_icmp .eq 420, 3) := by decide +kernel
theorem d_Law_law_515 : decode b_Law_law 515 = .ok (.aload_n 1, 1) := by decide +kernel
theorem d_Law_law_516 : decode b_Law_law 516 = .ok (.invokevirtual 74, 3) := by decide +kernel
theorem d_Law_law_519 : decode b_Law_law 519 = .ok (.aload_n 2, 1) := by decide +kernel
theorem d_Law_law_520 : decode b_Law_law 520 = .ok (.invokevirtual 78, 3) := by decide +kernel
theorem d_Law_law_523 : decode b_Law_law 523 = .ok (.if_icmp .eq 407, 3) := by decide +kernel
theorem d_Law_law_528 : decode b_Law_law 528 = .ok (.aload_n 1, 1) := by decide +kernel
theorem d_Law_law_529 : decode b_Law_law 529 = .ok (.aload_n 0, 1) := by decide +kernel
theorem d_Law_law_530 : decode b_Law_law 530 = .ok (.iload 4, 2) := by decide +kernel
theorem d_Law_law_532 : decode b_Law_law 532 = .ok (.iconst 1, 1) := by decide +kernel
theorem d_Law_law_533 : decode b_Law_law 533 = .ok (.iadd, 1) := by decide +kernel
theorem d_Law_law_534 : decode b_Law_law 534 = .ok (.iaload, 1) := by decide +kernel
theorem d_Law_law_535 : decode b_Law_law 535 = .ok (.invokevirtual 79, 3) := by decide +kernel
theorem d_Law_law_538 : decode b_Law_law 538 = .ok (.aload_n 2, 1) := by decide +kernel
theorem d_Law_law_539 : decode b_Law_law 539 = .ok (.aload_n 0, 1) := by decide +kernel
theorem d_Law_law_540 : decode b_Law_law 540 = .ok (.iload 4, 2) := by decide +kernel
theorem d_Law_law_542 : decode b_Law_law 542 = .ok (.iconst 1, 1) := by decide +kernel
theorem d_Law_law_543 : decode b_Law_law 543 = .ok (.iadd, 1) := by decide +kernel
theorem d_Law_law_544 : decode b_Law_law 544 = .ok (.iaload, 1) := by decide +kernel
theorem d_Law_law_545 : decode b_Law_law 545 = .ok (.invokevirtual 82, 3) := by decide +kernel
theorem d_Law_law_548 : decode b_Law_law 548 = .ok (.if_icmp .eq 382, 3) := by decide +kernel
theorem d_Law_law_553 : decode b_Law_law 553 = .ok (.aload_n 1, 1) := by decide +kernel
theorem d_Law_law_554 : decode b_Law_law 554 = .ok (.aload_n 0, 1) := by decide +kernel
theorem d_Law_law_555 : decode b_Law_law 555 = .ok (.iload 4, 2) := by decide +kernel
theorem d_Law_law_557 : decode b_Law_law 557 = .ok (.iconst 1, 1) := by decide +kernel
theorem d_Law_law_558 : decode b_Law_law 558 = .ok (.iadd, 1) := by decide +kernel
theorem d_Law_law_559 : decode b_Law_law 559 = .ok (.iaload, 1) := by decide +kernel
theorem d_Law_law_560 : decode b_Law_law 560 = .ok (.invokevirtual 83, 3) := by decide +kernel
theorem d_Law_law_563 : decode b_Law_law 563 = .ok (.aload_n 2, 1) := by decide +kernel
theorem d_Law_law_564 : decode b_Law_law 564 = .ok (.aload_n 0, 1) := by decide +kernel
theorem d_Law_law_565 : decode b_Law_law 565 = .ok (.iload 4, 2) := by decide +kernel
theorem d_Law_law_567 : decode b_Law_law 567 = .ok (.iconst 1, 1) := by decide +kernel
theorem d_Law_law_568 : decode b_Law_law 568 = .ok (.iadd, 1) := by decide +kernel
theorem d_Law_law_569 : decode b_Law_law 569 = .ok (.iaload, 1) := by decide +kernel
theorem d_Law_law_570 : decode b_Law_law 570 = .ok (.invokevirtual 86, 3) := by decide +kernel
theorem d_Law_law_573 : decode b_Law_law 573 = .ok (.if_icmp .eq 357, 3) := by decide +kernel
theorem d_Law_law_578 : decode b_Law_law 578 = .ok (.aload_n 1, 1) := by decide +kernel
theorem d_Law_law_579 : decode b_Law_law 579 = .ok (.invokevirtual 87, 3) := by decide +kernel
theorem d_Law_law_582 : decode b_Law_law 582 = .ok (.aload_n 2, 1) := by decide +kernel
theorem d_Law_law_583 : decode b_Law_law 583 = .ok (.invokevirtual 90, 3) := by decide +kernel
theorem d_Law_law_586 : decode b_Law_law 586 = .ok (.if_icmp .eq 344, 3) := by decide +kernel
theorem d_Law_law_591 : decode b_Law_law 591 = .ok (.aload_n 1, 1) := by decide +kernel
theorem d_Law_law_592 : decode b_Law_law 592 = .ok (.aload_n 0, 1) := by decide +kernel
theorem d_Law_law_593 : decode b_Law_law 593 = .ok (.iload 4, 2) := by decide +kernel
theorem d_Law_law_595 : decode b_Law_law 595 = .ok (.iconst 1, 1) := by decide +kernel
theorem d_Law_law_596 : decode b_Law_law 596 = .ok (.iadd, 1) := by decide +kernel
theorem d_Law_law_597 : decode b_Law_law 597 = .ok (.iaload, 1) := by decide +kernel
theorem d_Law_law_598 : decode b_Law_law 598 = .ok (.aload_n 0, 1) := by decide +kernel
theorem d_Law_law_599 : decode b_Law_law 599 = .ok (.iload 4, 2) := by decide +kernel
theorem d_Law_law_601 : decode b_Law_law 601 = .ok (.iconst 2, 1) := by decide +kernel
theorem d_Law_law_602 : decode b_Law_law 602 = .ok (.iadd, 1) := by decide +kernel
theorem d_Law_law_603 : decode b_Law_law 603 = .ok (.iaload, 1) := by decide +kernel
theorem d_Law_law_604 : decode b_Law_law 604 = .ok (.ifCond .eq 7, 3) := by decide +kernel
theorem d_Law_law_607 : decode b_Law_law 607 = .ok (.iconst 1, 1) := by decide +kernel
theorem d_Law_law_608 : decode b_Law_law 608 = .ok (.goto 4, 3) := by decide +kernel
theorem d_Law_law_611 : decode b_Law_law 611 = .ok (.iconst 0, 1) := by decide +kernel
theorem d_Law_law_612 : decode b_Law_law 612 = .ok (.aload_n 3, 1) := by decide +kernel
theorem d_Law_law_613 : decode b_Law_law 613 = .ok (.invokestatic 91, 3) := by decide +kernel
theorem d_Law_law_616 : decode b_Law_law 616 = .ok (.istore 5, 2) := by decide +kernel
theorem d_Law_law_618 : decode b_Law_law 618 = .ok (.aload_n 2, 1) := by decide +kernel
theorem d_Law_law_619 : decode b_Law_law 619 = .ok (.aload_n 0, 1) := by decide +kernel
theorem d_Law_law_620 : decode b_Law_law 620 = .ok (.iload 4, 2) := by decide +kernel
theorem d_Law_law_622 : decode b_Law_law 622 = .ok (.iconst 1, 1) := by decide +kernel
theorem d_Law_law_623 : decode b_Law_law 623 = .ok (.iadd, 1) := by decide +kernel
theorem d_Law_law_624 : decode b_Law_law 624 = .ok (.iaload, 1) := by decide +kernel
theorem d_Law_law_625 : decode b_Law_law 625 = .ok (.aload_n 0, 1) := by decide +kernel
theorem d_Law_law_626 : decode b_Law_law 626 = .ok (.iload 4, 2) := by decide +kernel
theorem d_Law_law_628 : decode b_Law_law 628 = .ok (.iconst 2, 1) := by decide +kernel
theorem d_Law_law_629 : decode b_Law_law 629 = .ok (.iadd, 1) := by decide +kernel
theorem d_Law_law_630 : decode b_Law_law 630 = .ok (.iaload, 1) := by decide +kernel
theorem d_Law_law_631 : decode b_Law_law 631 = .ok (.ifCond .eq 7, 3) := by decide +kernel
theorem d_Law_law_634 : decode b_Law_law 634 = .ok (.iconst 1, 1) := by decide +kernel
theorem d_Law_law_635 : decode b_Law_law 635 = .ok (.goto 4, 3) := by decide +kernel
theorem d_Law_law_638 : decode b_Law_law 638 = .ok (.iconst 0, 1) := by decide +kernel
theorem d_Law_law_639 : decode b_Law_law 639 = .ok (.invokevirtual 94, 3) := by decide +kernel
theorem d_Law_law_642 : decode b_Law_law 642 = .ok (.istore 6, 2) := by decide +kernel
theorem d_Law_law_644 : decode b_Law_law 644 = .ok (.aload_n 2, 1) := by decide +kernel
theorem d_Law_law_645 : decode b_Law_law 645 = .ok (.invokevirtual 49, 3) := by decide +kernel
theorem d_Law_law_648 : decode b_Law_law 648 = .ok (.iload 5, 2) := by decide +kernel
theorem d_Law_law_650 : decode b_Law_law 650 = .ok (.if_icmp .eq 5, 3) := by decide +kernel
theorem d_Law_law_655 : decode b_Law_law 655 = .ok (.iload 5, 2) := by decide +kernel
theorem d_Law_law_657 : decode b_Law_law 657 = .ok (.ifCond .ne 15, 3) := by decide +kernel
theorem d_Law_law_660 : decode b_Law_law 660 = .ok (.aload_n 3, 1) := by decide +kernel
theorem d_Law_law_661 : decode b_Law_law 661 = .ok (.iconst 0, 1) := by decide +kernel
theorem d_Law_law_662 : decode b_Law_law 662 = .ok (.laload, 1) := by decide +kernel
theorem d_Law_law_663 : decode b_Law_law 663 = .ok (.iload 6, 2) := by decide +kernel
theorem d_Law_law_665 : decode b_Law_law 665 = .ok (.i2l, 1) := by decide +kernel
theorem d_Law_law_666 : decode b_Law_law 666 = .ok (.lcmp, 1) := by decide +kernel
theorem d_Law_law_667 : decode b_Law_law 667 = .ok (.ifCond .eq 5, 3) := by decide +kernel
theorem d_Law_law_672 : decode b_Law_law 672 = .ok (.goto 258, 3) := by decide +kernel
theorem d_Law_law_675 : decode b_Law_law 675 = .ok (.aload_n 1, 1) := by decide +kernel
theorem d_Law_law_676 : decode b_Law_law 676 = .ok (.aload_n 0, 1) := by decide +kernel
theorem d_Law_law_677 : decode b_Law_law 677 = .ok (.iload 4, 2) := by decide +kernel
theorem d_Law_law_679 : decode b_Law_law 679 = .ok (.iconst 1, 1) := by decide +kernel
theorem d_Law_law_680 : decode b_Law_law 680 = .ok (.iadd, 1) := by decide +kernel
theorem d_Law_law_681 : decode b_Law_law 681 = .ok (.iaload, 1) := by decide +kernel
theorem d_Law_law_682 : decode b_Law_law 682 = .ok (.aload_n 3, 1) := by decide +kernel
theorem d_Law_law_683 : decode b_Law_law 683 = .ok (.invokestatic 95, 3) := by decide +kernel
theorem d_Law_law_686 : decode b_Law_law 686 = .ok (.istore 5, 2) := by decide +kernel
theorem d_Law_law_688 : decode b_Law_law 688 = .ok (.aload_n 2, 1) := by decide +kernel
theorem d_Law_law_689 : decode b_Law_law 689 = .ok (.aload_n 0, 1) := by decide +kernel
theorem d_Law_law_690 : decode b_Law_law 690 = .ok (.iload 4, 2) := by decide +kernel
theorem d_Law_law_692 : decode b_Law_law 692 = .ok (.iconst 1, 1) := by decide +kernel
theorem d_Law_law_693 : decode b_Law_law 693 = .ok (.iadd, 1) := by decide +kernel
theorem d_Law_law_694 : decode b_Law_law 694 = .ok (.iaload, 1) := by decide +kernel
theorem d_Law_law_695 : decode b_Law_law 695 = .ok (.invokevirtual 98, 3) := by decide +kernel
theorem d_Law_law_698 : decode b_Law_law 698 = .ok (.istore 6, 2) := by decide +kernel
theorem d_Law_law_700 : decode b_Law_law 700 = .ok (.aload_n 2, 1) := by decide +kernel
theorem d_Law_law_701 : decode b_Law_law 701 = .ok (.invokevirtual 49, 3) := by decide +kernel
theorem d_Law_law_704 : decode b_Law_law 704 = .ok (.iload 5, 2) := by decide +kernel
theorem d_Law_law_706 : decode b_Law_law 706 = .ok (.if_icmp .eq 5, 3) := by decide +kernel
theorem d_Law_law_711 : decode b_Law_law 711 = .ok (.iload 5, 2) := by decide +kernel
theorem d_Law_law_713 : decode b_Law_law 713 = .ok (.ifCond .ne 15, 3) := by decide +kernel
theorem d_Law_law_716 : decode b_Law_law 716 = .ok (.aload_n 3, 1) := by decide +kernel
theorem d_Law_law_717 : decode b_Law_law 717 = .ok (.iconst 0, 1) := by decide +kernel
theorem d_Law_law_718 : decode b_Law_law 718 = .ok (.laload, 1) := by decide +kernel
theorem d_Law_law_719 : decode b_Law_law 719 = .ok (.iload 6, 2) := by decide +kernel
theorem d_Law_law_721 : decode b_Law_law 721 = .ok (.i2l, 1) := by decide +kernel
theorem d_Law_law_722 : decode b_Law_law 722 = .ok (.lcmp, 1) := by decide +kernel
theorem d_Law_law_723 : decode b_Law_law 723 = .ok (.ifCond .eq 5, 3) := by decide +kernel
theorem d_Law_law_728 : decode b_Law_law 728 = .ok (.goto 202, 3) := by decide +kernel
theorem d_Law_law_731 : decode b_Law_law 731 = .ok (.aload_n 1, 1) := by decide +kernel
theorem d_Law_law_732 : decode b_Law_law 732 = .ok (.aload_n 0, 1) := by decide +kernel
theorem d_Law_law_733 : decode b_Law_law 733 = .ok (.iload 4, 2) := by decide +kernel
theorem d_Law_law_735 : decode b_Law_law 735 = .ok (.iconst 1, 1) := by decide +kernel
theorem d_Law_law_736 : decode b_Law_law 736 = .ok (.iadd, 1) := by decide +kernel
theorem d_Law_law_737 : decode b_Law_law 737 = .ok (.iaload, 1) := by decide +kernel
theorem d_Law_law_738 : decode b_Law_law 738 = .ok (.aload_n 0, 1) := by decide +kernel
theorem d_Law_law_739 : decode b_Law_law 739 = .ok (.iload 4, 2) := by decide +kernel
theorem d_Law_law_741 : decode b_Law_law 741 = .ok (.iconst 2, 1) := by decide +kernel
theorem d_Law_law_742 : decode b_Law_law 742 = .ok (.iadd, 1) := by decide +kernel
theorem d_Law_law_743 : decode b_Law_law 743 = .ok (.iaload, 1) := by decide +kernel
theorem d_Law_law_744 : decode b_Law_law 744 = .ok (.aload_n 3, 1) := by decide +kernel
theorem d_Law_law_745 : decode b_Law_law 745 = .ok (.invokestatic 99, 3) := by decide +kernel
theorem d_Law_law_748 : decode b_Law_law 748 = .ok (.istore 5, 2) := by decide +kernel
theorem d_Law_law_750 : decode b_Law_law 750 = .ok (.aload_n 2, 1) := by decide +kernel
theorem d_Law_law_751 : decode b_Law_law 751 = .ok (.aload_n 0, 1) := by decide +kernel
theorem d_Law_law_752 : decode b_Law_law 752 = .ok (.iload 4, 2) := by decide +kernel
theorem d_Law_law_754 : decode b_Law_law 754 = .ok (.iconst 1, 1) := by decide +kernel
theorem d_Law_law_755 : decode b_Law_law 755 = .ok (.iadd, 1) := by decide +kernel
theorem d_Law_law_756 : decode b_Law_law 756 = .ok (.iaload, 1) := by decide +kernel
theorem d_Law_law_757 : decode b_Law_law 757 = .ok (.aload_n 0, 1) := by decide +kernel
theorem d_Law_law_758 : decode b_Law_law 758 = .ok (.iload 4, 2) := by decide +kernel
theorem d_Law_law_760 : decode b_Law_law 760 = .ok (.iconst 2, 1) := by decide +kernel
theorem d_Law_law_761 : decode b_Law_law 761 = .ok (.iadd, 1) := by decide +kernel
theorem d_Law_law_762 : decode b_Law_law 762 = .ok (.iaload, 1) := by decide +kernel
theorem d_Law_law_763 : decode b_Law_law 763 = .ok (.invokevirtual 101, 3) := by decide +kernel
theorem d_Law_law_766 : decode b_Law_law 766 = .ok (.istore 6, 2) := by decide +kernel
theorem d_Law_law_768 : decode b_Law_law 768 = .ok (.aload_n 2, 1) := by decide +kernel
theorem d_Law_law_769 : decode b_Law_law 769 = .ok (.invokevirtual 49, 3) := by decide +kernel
theorem d_Law_law_772 : decode b_Law_law 772 = .ok (.iload 5, 2) := by decide +kernel
theorem d_Law_law_774 : decode b_Law_law 774 = .ok (.if_icmp .eq 5, 3) := by decide +kernel
theorem d_Law_law_779 : decode b_Law_law 779 = .ok (.iload 5, 2) := by decide +kernel
theorem d_Law_law_781 : decode b_Law_law 781 = .ok (.ifCond .ne 15, 3) := by decide +kernel
theorem d_Law_law_784 : decode b_Law_law 784 = .ok (.aload_n 3, 1) := by decide +kernel
theorem d_Law_law_785 : decode b_Law_law 785 = .ok (.iconst 0, 1) := by decide +kernel
theorem d_Law_law_786 : decode b_Law_law 786 = .ok (.laload, 1) := by decide +kernel
theorem d_Law_law_787 : decode b_Law_law 787 = .ok (.iload 6, 2) := by decide +kernel
theorem d_Law_law_789 : decode b_Law_law 789 = .ok (.i2l, 1) := by decide +kernel
theorem d_Law_law_790 : decode b_Law_law 790 = .ok (.lcmp, 1) := by decide +kernel
theorem d_Law_law_791 : decode b_Law_law 791 = .ok (.ifCond .eq 5, 3) := by decide +kernel
theorem d_Law_law_796 : decode b_Law_law 796 = .ok (.goto 134, 3) := by decide +kernel
theorem d_Law_law_799 : decode b_Law_law 799 = .ok (.aload_n 1, 1) := by decide +kernel
theorem d_Law_law_800 : decode b_Law_law 800 = .ok (.aload_n 0, 1) := by decide +kernel
theorem d_Law_law_801 : decode b_Law_law 801 = .ok (.iload 4, 2) := by decide +kernel
theorem d_Law_law_803 : decode b_Law_law 803 = .ok (.iconst 1, 1) := by decide +kernel
theorem d_Law_law_804 : decode b_Law_law 804 = .ok (.iadd, 1) := by decide +kernel
theorem d_Law_law_805 : decode b_Law_law 805 = .ok (.iaload, 1) := by decide +kernel
theorem d_Law_law_806 : decode b_Law_law 806 = .ok (.aload_n 0, 1) := by decide +kernel
theorem d_Law_law_807 : decode b_Law_law 807 = .ok (.iload 4, 2) := by decide +kernel
theorem d_Law_law_809 : decode b_Law_law 809 = .ok (.iconst 2, 1) := by decide +kernel
theorem d_Law_law_810 : decode b_Law_law 810 = .ok (.iadd, 1) := by decide +kernel
theorem d_Law_law_811 : decode b_Law_law 811 = .ok (.iaload, 1) := by decide +kernel
theorem d_Law_law_812 : decode b_Law_law 812 = .ok (.aload_n 3, 1) := by decide +kernel
theorem d_Law_law_813 : decode b_Law_law 813 = .ok (.invokestatic 102, 3) := by decide +kernel
theorem d_Law_law_816 : decode b_Law_law 816 = .ok (.istore 5, 2) := by decide +kernel
theorem d_Law_law_818 : decode b_Law_law 818 = .ok (.aload_n 2, 1) := by decide +kernel
theorem d_Law_law_819 : decode b_Law_law 819 = .ok (.aload_n 0, 1) := by decide +kernel
theorem d_Law_law_820 : decode b_Law_law 820 = .ok (.iload 4, 2) := by decide +kernel
theorem d_Law_law_822 : decode b_Law_law 822 = .ok (.iconst 1, 1) := by decide +kernel
theorem d_Law_law_823 : decode b_Law_law 823 = .ok (.iadd, 1) := by decide +kernel
theorem d_Law_law_824 : decode b_Law_law 824 = .ok (.iaload, 1) := by decide +kernel
theorem d_Law_law_825 : decode b_Law_law 825 = .ok (.aload_n 0, 1) := by decide +kernel
theorem d_Law_law_826 : decode b_Law_law 826 = .ok (.iload 4, 2) := by decide +kernel
theorem d_Law_law_828 : decode b_Law_law 828 = .ok (.iconst 2, 1) := by decide +kernel
theorem d_Law_law_829 : decode b_Law_law 829 = .ok (.iadd, 1) := by decide +kernel
theorem d_Law_law_830 : decode b_Law_law 830 = .ok (.iaload, 1) := by decide +kernel
theorem d_Law_law_831 : decode b_Law_law 831 = .ok (.invokevirtual 104, 3) := by decide +kernel
theorem d_Law_law_834 : decode b_Law_law 834 = .ok (.istore 6, 2) := by decide +kernel
theorem d_Law_law_836 : decode b_Law_law 836 = .ok (.aload_n 2, 1) := by decide +kernel
theorem d_Law_law_837 : decode b_Law_law 837 = .ok (.invokevirtual 49, 3) := by decide +kernel
theorem d_Law_law_840 : decode b_Law_law 840 = .ok (.iload 5, 2) := by decide +kernel
theorem d_Law_law_842 : decode b_Law_law 842 = .ok (.if_icmp .eq 5, 3) := by decide +kernel
theorem d_Law_law_847 : decode b_Law_law 847 = .ok (.iload 5, 2) := by decide +kernel
theorem d_Law_law_849 : decode b_Law_law 849 = .ok (.ifCond .ne 15, 3) := by decide +kernel
theorem d_Law_law_852 : decode b_Law_law 852 = .ok (.aload_n 3, 1) := by decide +kernel
theorem d_Law_law_853 : decode b_Law_law 853 = .ok (.iconst 0, 1) := by decide +kernel
theorem d_Law_law_854 : decode b_Law_law 854 = .ok (.laload, 1) := by decide +kernel
theorem d_Law_law_855 : decode b_Law_law 855 = .ok (.iload 6, 2) := by decide +kernel
theorem d_Law_law_857 : decode b_Law_law 857 = .ok (.i2l, 1) := by decide +kernel
theorem d_Law_law_858 : decode b_Law_law 858 = .ok (.lcmp, 1) := by decide +kernel
theorem d_Law_law_859 : decode b_Law_law 859 = .ok (.ifCond .eq 5, 3) := by decide +kernel
theorem d_Law_law_864 : decode b_Law_law 864 = .ok (.goto 66, 3) := by decide +kernel
theorem d_Law_law_867 : decode b_Law_law 867 = .ok (.aload_n 1, 1) := by decide +kernel
theorem d_Law_law_868 : decode b_Law_law 868 = .ok (.invokevirtual 105, 3) := by decide +kernel
theorem d_Law_law_871 : decode b_Law_law 871 = .ok (.aload_n 2, 1) := by decide +kernel
theorem d_Law_law_872 : decode b_Law_law 872 = .ok (.invokevirtual 108, 3) := by decide +kernel
theorem d_Law_law_875 : decode b_Law_law 875 = .ok (.if_icmp .eq 55, 3) := by decide +kernel
theorem d_Law_law_880 : decode b_Law_law 880 = .ok (.aload_n 1, 1) := by decide +kernel
theorem d_Law_law_881 : decode b_Law_law 881 = .ok (.aload_n 0, 1) := by decide +kernel
theorem d_Law_law_882 : decode b_Law_law 882 = .ok (.iload 4, 2) := by decide +kernel
theorem d_Law_law_884 : decode b_Law_law 884 = .ok (.iconst 1, 1) := by decide +kernel
theorem d_Law_law_885 : decode b_Law_law 885 = .ok (.iadd, 1) := by decide +kernel
theorem d_Law_law_886 : decode b_Law_law 886 = .ok (.iaload, 1) := by decide +kernel
theorem d_Law_law_887 : decode b_Law_law 887 = .ok (.invokevirtual 109, 3) := by decide +kernel
theorem d_Law_law_890 : decode b_Law_law 890 = .ok (.aload_n 2, 1) := by decide +kernel
theorem d_Law_law_891 : decode b_Law_law 891 = .ok (.aload_n 0, 1) := by decide +kernel
theorem d_Law_law_892 : decode b_Law_law 892 = .ok (.iload 4, 2) := by decide +kernel
theorem d_Law_law_894 : decode b_Law_law 894 = .ok (.iconst 1, 1) := by decide +kernel
theorem d_Law_law_895 : decode b_Law_law 895 = .ok (.iadd, 1) := by decide +kernel
theorem d_Law_law_896 : decode b_Law_law 896 = .ok (.iaload, 1) := by decide +kernel
theorem d_Law_law_897 : decode b_Law_law 897 = .ok (.invokevirtual 112, 3) := by decide +kernel
theorem d_Law_law_900 : decode b_Law_law 900 = .ok (.if_icmp .eq 30, 3) := by decide +kernel
theorem d_Law_law_905 : decode b_Law_law 905 = .ok (.aload_n 1, 1) := by decide +kernel
theorem d_Law_law_906 : decode b_Law_law 906 = .ok (.aload_n 0, 1) := by decide +kernel
theorem d_Law_law_907 : decode b_Law_law 907 = .ok (.iload 4, 2) := by decide +kernel
theorem d_Law_law_909 : decode b_Law_law 909 = .ok (.iconst 1, 1) := by decide +kernel
theorem d_Law_law_910 : decode b_Law_law 910 = .ok (.iadd, 1) := by decide +kernel
theorem d_Law_law_911 : decode b_Law_law 911 = .ok (.iaload, 1) := by decide +kernel
theorem d_Law_law_912 : decode b_Law_law 912 = .ok (.invokevirtual 113, 3) := by decide +kernel
theorem d_Law_law_915 : decode b_Law_law 915 = .ok (.aload_n 2, 1) := by decide +kernel
theorem d_Law_law_916 : decode b_Law_law 916 = .ok (.aload_n 0, 1) := by decide +kernel
theorem d_Law_law_917 : decode b_Law_law 917 = .ok (.iload 4, 2) := by decide +kernel
theorem d_Law_law_919 : decode b_Law_law 919 = .ok (.iconst 1, 1) := by decide +kernel
theorem d_Law_law_920 : decode b_Law_law 920 = .ok (.iadd, 1) := by decide +kernel
theorem d_Law_law_921 : decode b_Law_law 921 = .ok (.iaload, 1) := by decide +kernel
theorem d_Law_law_922 : decode b_Law_law 922 = .ok (.invokevirtual 117, 3) := by decide +kernel
theorem d_Law_law_925 : decode b_Law_law 925 = .ok (.if_icmp .eq 5, 3) := by decide +kernel
theorem d_Law_law_930 : decode b_Law_law 930 = .ok (.iinc 4 5, 3) := by decide +kernel
theorem d_Law_law_933 : decode b_Law_law 933 = .ok (.goto (-910), 3) := by decide +kernel
theorem d_Law_law_936 : decode b_Law_law 936 = .ok (.iconst 1, 1) := by decide +kernel
theorem d_Law_law_937 : decode b_Law_law 937 = .ok (.ireturn, 1) := by decide +kernel
set_option maxHeartbeats 8000000 in
set_option maxRecDepth 40000 in
theorem law_loop {p : Program} {l : Launch} {e : Env} {s : State} {m : MethodId} {below : List Frame} {meth : Method} {c : Code} (htr : l.stackTraces = false) {b L : Nat} {xs : Nat → Int32} (hL : L ≤ 2560) (hx : p.tables.exec = Jvm.exec) (hb : c.code = b_Law_law) (hr : meth.sig.returnType = ret) (hml : c.maxLocals = 7) (hown : s.vm.findClass "RangeSheetLaw" = some m.cls) (hlk : meth.locks = false) {D : va_G} {cA : Nat → ClassId} (hK : KE D cA s) (hThs : ∀ (H : Heap) (locs : List Loc), va_S (fun q => s.heap.size ≤ q) s.heap H locs → ∀ T : State, s.WarmedH T.vm → T.heap = H → Th T) (hNC : NC s) (hX : va_X b L xs s s.heap) (hbl : b < s.heap.size) {aM : Nat → Nat} {ax ao : Nat} (hiM : wI mN aM) (hMs : ∀ k ∈ mN, s.heap.size ≤ aM k) (haos : s.heap.size ≤ ao) (hmo : ∀ k ∈ mN, aM k ≠ ao) : ∀ (n i : Nat) (x4 : Int32) (cells slots : Nat) (H : Heap) (locs : List Loc) (ls : Array Slot), L - i < n → x4.toInt = (i : Int) → cells + (L - i) ≤ 600000 → slots + 10 * (L - i) ≤ 7000000 → LInv D cA s.heap.size aM ax ao H → va_S (fun q => s.heap.size ≤ q) s.heap H locs → lv_has ls 7 [(0, .ref b), (1, .ref ax), (2, .ref (aM 0)), (3, .ref ao), (4, .int x4)] → W p l e room_1 s m #[Value.ref b] below meth c H locs cells slots (lw_Z below #[Value.ref b] s) (F0 m 23 ls []) := by
  have hbA : ¬ (fun q => s.heap.size ≤ q) b := Nat.not_le.mpr hbl
  intro n
  induction n with
  | zero => intro i x4 cells slots H locs ls hmu; exact absurd hmu (Nat.not_lt_zero _)
  | succ n ih =>
    intro i x4 cells slots H locs ls hmu h4 hc1 hc2 hI hS hl
    refine lv_iload hx hb d_Law_law_23 (lv_at hl 4 rfl) ?_
    refine lv_aload_n hx hb d_Law_law_25 rfl (lv_at hl 0 rfl) ?_
    refine w_slen hx hb hX hbl hbA hS hL d_Law_law_26 (fun z_1 tz_1 => ?_)
    refine lv_iconst (v := 5) hx hb d_Law_law_27 (by decide) ?_
    refine x_sub hx hb d_Law_law_28 tz_1 kc_5 (by omega) (fun z_2 tz_2 => ?_)
    refine b_icmp_gt (tgt := 936) hx hb d_Law_law_29 (by decide) h4 tz_2 (fun c_3 => ?_) (fun c_3 => ?_)
    · refine lv_iconst (v := 1) hx hb d_Law_law_936 (by decide) ?_
      exact va_forget hS.2.2 (W_up (by omega) (by omega) (lw_ret hx hb hr hlk d_Law_law_937))
    · have hi5 : i + 5 ≤ L := by omega
      have hcs : cells ≤ room_1.cells ∧ slots ≤ room_1.slots := ⟨by show cells ≤ 621396; omega, by show slots ≤ 7231917; omega⟩
      have hcs1 : cells + 1 ≤ room_1.cells ∧ slots + 10 ≤ room_1.slots := ⟨by show cells + 1 ≤ 621396; omega, by show slots + 10 ≤ 7231917; omega⟩
      have hcs2 := hcs1
      have hB : ∀ (H : Heap) (locs : List Loc) (ls : Array Slot), LInv D cA s.heap.size aM ax ao H → va_S (fun q => s.heap.size ≤ q) s.heap H locs → lv_has ls 7 [(0, .ref b), (1, .ref ax), (2, .ref (aM 0)), (3, .ref ao), (4, .int x4)] → W p l e room_1 s m #[Value.ref b] below meth c H locs (cells + 1) (slots + 10) (lw_Z below #[Value.ref b] s) (F0 m 930 ls []) := by
        intro H locs ls hI hS hl
        refine x_iinc (k := 4) (lv' := fun v_ => [(4, .int v_), (0, .ref b), (1, .ref ax), (2, .ref (aM 0)), (3, .ref ao)]) hx hb d_Law_law_930 hl rfl h4 (by decide) (by omega) (by decide) (fun v_ => rfl) (fun z tz ls hl => ?_)
        refine lv_goto (tgt := 23) hx hb d_Law_law_933 (by decide) ?_
        exact ih (i + 5) z (cells + 1) (slots + 10) H locs ls (by omega) (by omega) (by omega) (by omega) hI hS (lv_sub hl [1, 2, 3, 4, 0] rfl)
      have hI0 := hI
      obtain ⟨I, F, nn, mm, en, mk, ch, adr, cn, x, dn, g, hWF, hch, hM, had, hi, hCP, hP, hO, hsz, hao, hdj⟩ := hI0
      have hNm : ∀ k, k < 56 + mm → k ∈ List.range (56 + mm) := fun k hk => List.mem_range.mpr hk
      refine lv_aload_n hx hb d_Law_law_32 rfl (lv_at hl 0 rfl) ?_
      refine lv_iload hx hb d_Law_law_33 (lv_at hl 4 rfl) ?_
      refine w_sld hx hb hX hbl hbA hS i h4 (by omega) (by omega) d_Law_law_35 ?_
      refine lv_bipush (v := 31) hx hb d_Law_law_36 (by decide) ?_
      refine lv_iand hx hb d_Law_law_38 ?_
      by_cases c_4 : ((xs i) &&& (31 : Int32)).toInt = 0
      · have e_4 : ((xs i) &&& (31 : Int32)).toInt = 0 := (rfl).trans c_4
        refine lv_tableIn (off := 81) (tgt := 120) hx hb d_Law_law_39 (by rw [e_4]; decide) (by rw [e_4]; decide) (by rw [e_4]; rfl) (by decide) ?_
        refine lv_aload_n hx hb d_Law_law_120 rfl (lv_at hl 1 rfl) ?_
        refine lv_aload_n hx hb d_Law_law_121 rfl (lv_at hl 0 rfl) ?_
        refine lv_iload hx hb d_Law_law_122 (lv_at hl 4 rfl) ?_
        refine lv_iconst (v := 1) hx hb d_Law_law_124 (by decide) ?_
        refine x_add hx hb d_Law_law_125 h4 kc_1 (by omega) (fun z_5 tz_5 => ?_)
        refine w_sld hx hb hX hbl hbA hS (i + 1) tz_5 (by omega) (by omega) d_Law_law_126 ?_
        refine lv_aload_n hx hb d_Law_law_127 rfl (lv_at hl 0 rfl) ?_
        refine lv_iload hx hb d_Law_law_128 (lv_at hl 4 rfl) ?_
        refine lv_iconst (v := 2) hx hb d_Law_law_130 (by decide) ?_
        refine x_add hx hb d_Law_law_131 h4 kc_2 (by omega) (fun z_6 tz_6 => ?_)
        refine w_sld hx hb hX hbl hbA hS (i + 2) tz_6 (by omega) (by omega) d_Law_law_132 ?_
        refine lv_aload_n hx hb d_Law_law_133 rfl (lv_at hl 3 rfl) ?_
        refine l_SH (As := [.ref (adr 0), .int (xs (i + 1)), .int (xs (i + 2)), .ref ao]) (rest := []) hx hb hml hown hK (k_Law_cell l htr D cA H.size adr cn ao g F I nn mm en mk (List.range (56 + mm)) hi hNm hao x dn hCP hWF (xs (i + 1)) (xs (i + 2))) t_387 t_0 t_385 t_386 yk_Law_cell ⟨Nat.le_of_ble_eq_true rfl, Nat.le_of_ble_eq_true rfl⟩ (hThs H locs hS) hNC hP hO hS (fun q h9 => by rcases h9 with ⟨n9, h9, e9⟩ | e9 | e9; (rw [e9]; exact hsz n9 h9); (rw [e9]; exact haos); exact Nat.le_trans hS.1 e9) rfl hl.1 (by rw [had]; rfl) (Nat.le_of_ble_eq_true rfl) d_Law_law_134 hcs2 (fun r H1 locs hq hkk hzz hS => ?_)
        have hM : MP D cA aM I F H1 := kpW hM hkk (fun k9 hk9 hlt9 h9 => by rcases h9 with ⟨n9, h9, e9⟩ | e9 | e9; exact hdj n9 h9 k9 hk9 e9.symm; exact hmo k9 hk9 e9; omega)
        rcases hq with ⟨hcd, z1, g2, rfl, hz1, hg2, hO, cn2, x2, dn2, hC2, hP⟩ | ⟨hcd, cd, rfl, hcd2, hO, cn2, x2, dn2, hC2, hP⟩
        · refine W.eq (g2 := F0 m 137 ls [.int (0 : Int32)]) rfl ?_
          refine lv_istore (lv' := [(5, .int (0 : Int32)), (0, .ref b), (1, .ref ax), (2, .ref (aM 0)), (3, .ref ao), (4, .int x4)]) hx hb d_Law_law_137 hl (by decide) rfl (fun ls hl => ?_)
          refine lv_aload_n hx hb d_Law_law_139 rfl (lv_at hl 3 rfl) ?_
          refine lv_aload_n hx hb d_Law_law_140 rfl (lv_at hl 1 rfl) ?_
          refine lv_iload hx hb d_Law_law_141 (lv_at hl 5 rfl) ?_
          refine lv_iconst (v := 1) hx hb d_Law_law_143 (by decide) ?_
          refine x_add hx hb d_Law_law_144 h4 kc_1 (by omega) (fun z_7 tz_7 => ?_)
          refine w_sld hx hb hX hbl hbA hS (i + 1) tz_7 (by omega) (by omega) d_Law_law_145 ?_
          refine lv_aload_n hx hb d_Law_law_146 rfl (lv_at hl 1 rfl) ?_
          refine lv_iload hx hb d_Law_law_147 (lv_at hl 5 rfl) ?_
          refine lv_iconst (v := 2) hx hb d_Law_law_149 (by decide) ?_
          refine x_add hx hb d_Law_law_150 h4 kc_2 (by omega) (fun z_8 tz_8 => ?_)
          refine w_sld hx hb hX hbl hbA hS (i + 2) tz_8 (by omega) (by omega) d_Law_law_151 ?_
          refine x_V (As := [.int (xs (i + 1)), .int (xs (i + 2))]) (rest := []) hx hb hml hown hK (k_Mod_cell l D cA aM hiM I F nn mm en mk ch hch hWF (xs (i + 1)) (xs (i + 2))) t_854 t_4 t_851 t_852 t_853 yk_Mod_cell ⟨Nat.le_of_ble_eq_true rfl, Nat.le_of_ble_eq_true rfl⟩ (m_rec hK hM) hM rfl hl.1 rfl (Nat.le_of_ble_eq_true rfl) d_Law_law_152 hcs1 hS (fun q ⟨k9, h9, e9⟩ => by rw [e9]; exact hMs k9 h9) (fun r H2 locs hq hkk hS => ?_)
          have hP : va_P D classes (wl (List.range (56 + mm)) adr cn2) H2 := kpW hP hkk (fun n9 h9 _ ⟨k9, hk9, e9⟩ => hdj n9 h9 k9 hk9 e9)
          have hO : va_at D classes (ao, OUT cA g2) H2 := kpO hO hkk (fun _ ⟨k9, hk9, e9⟩ => hmo k9 hk9 e9.symm)
          obtain ⟨z2, rfl, hz2, I2, F2, c2, h02, h20, hSm, hM⟩ := hq
          rw [if_pos hcd] at hSm
          have hz2 := hz2 hcd
          have hth : (I2 0).toInt = 0 := by rw [h02, hcd]; rfl
          refine W.eq (g2 := F0 m 155 ls [.int z2]) rfl ?_
          refine lv_istore (lv' := [(6, .int z2), (5, .int (0 : Int32)), (0, .ref b), (1, .ref ax), (2, .ref (aM 0)), (3, .ref ao), (4, .int x4)]) hx hb d_Law_law_155 hl (by decide) rfl (fun ls hl => ?_)
          refine lv_aload_n hx hb d_Law_law_157 rfl (lv_at hl 4 rfl) ?_
          refine x_V (As := []) (rest := []) hx hb hml hown hK (k_Mod_thrown l D cA aM hiM I2 F2) t_850 t_4 t_847 t_848 t_849 yk_Mod_thrown ⟨Nat.le_of_ble_eq_true rfl, Nat.le_of_ble_eq_true rfl⟩ (m_rec hK hM) hM rfl hl.1 rfl (Nat.le_of_ble_eq_true rfl) d_Law_law_158 hcs1 hS (fun q ⟨k9, h9, e9⟩ => by rw [e9]; exact hMs k9 h9) (fun r H3 locs hq hkk hS => ?_)
          have hP : va_P D classes (wl (List.range (56 + mm)) adr cn2) H3 := kpW hP hkk (fun n9 h9 _ ⟨k9, hk9, e9⟩ => hdj n9 h9 k9 hk9 e9)
          have hO : va_at D classes (ao, OUT cA g2) H3 := kpO hO hkk (fun _ ⟨k9, hk9, e9⟩ => hmo k9 hk9 e9.symm)
          obtain ⟨rfl, hM⟩ := hq
          refine W.eq (g2 := F0 m 161 ls [.int (I2 0)]) rfl ?_
          refine lv_iload hx hb d_Law_law_161 (lv_at hl 1 rfl) ?_
          refine b_icmp_eq (tgt := 168) hx hb d_Law_law_163 (by decide) rfl kc_0 (fun c_9 => ?_) (fun c_9 => ?_)
          · refine lv_iload hx hb d_Law_law_168 (lv_at hl 1 rfl) ?_
            refine b_if_ne (tgt := 185) hx hb d_Law_law_170 (by decide) kc_0 (fun c_10 => ?_) (fun c_10 => ?_)
            · exact absurd c_10 (by decide)
            · refine lv_aload_n hx hb d_Law_law_173 rfl (lv_at hl 5 rfl) ?_
              refine lv_iconst (v := 0) hx hb d_Law_law_174 (by decide) ?_
              refine w_oal hx hb hK hO d_Law_law_175 ?_
              refine lv_iload hx hb d_Law_law_176 (lv_at hl 0 rfl) ?_
              refine lv_i2l hx hb d_Law_law_178 rfl ?_
              have hzz : z1 = z2 := i32_eq (hz1.trans hz2.symm)
              refine W.lcmp hx hb d_Law_law_179 ?_
              refine W.eq (g2 := F0 m 180 ls [.int 0]) (by rw [hg2, hzz, lg_self]; rfl) ?_
              refine b_if_eq (tgt := 185) hx hb d_Law_law_180 (by decide) kc_0 (fun c_11 => ?_) (fun c_11 => ?_)
              · refine lv_goto (tgt := 930) hx hb d_Law_law_185 (by decide) ?_
                exact hB _ _ _ (li_mk (hWF.cell (bc_0 hcd).2 (bc_0 hcd).1) hSm h20 hM had hi hC2 hP hO hsz hao hdj) hS (lv_sub hl [2, 3, 4, 5, 6] rfl)
              · exact absurd c_11 (by decide)
          · exact absurd hth c_9
        · have hcdn : ¬ cd.toInt = 0 := by rw [hcd2]; exact hcd
          refine W.eq (g2 := F0 m 137 ls [.int cd]) rfl ?_
          refine lv_istore (lv' := [(5, .int cd), (0, .ref b), (1, .ref ax), (2, .ref (aM 0)), (3, .ref ao), (4, .int x4)]) hx hb d_Law_law_137 hl (by decide) rfl (fun ls hl => ?_)
          refine lv_aload_n hx hb d_Law_law_139 rfl (lv_at hl 3 rfl) ?_
          refine lv_aload_n hx hb d_Law_law_140 rfl (lv_at hl 1 rfl) ?_
          refine lv_iload hx hb d_Law_law_141 (lv_at hl 5 rfl) ?_
          refine lv_iconst (v := 1) hx hb d_Law_law_143 (by decide) ?_
          refine x_add hx hb d_Law_law_144 h4 kc_1 (by omega) (fun z_12 tz_12 => ?_)
          refine w_sld hx hb hX hbl hbA hS (i + 1) tz_12 (by omega) (by omega) d_Law_law_145 ?_
          refine lv_aload_n hx hb d_Law_law_146 rfl (lv_at hl 1 rfl) ?_
          refine lv_iload hx hb d_Law_law_147 (lv_at hl 5 rfl) ?_
          refine lv_iconst (v := 2) hx hb d_Law_law_149 (by decide) ?_
          refine x_add hx hb d_Law_law_150 h4 kc_2 (by omega) (fun z_13 tz_13 => ?_)
          refine w_sld hx hb hX hbl hbA hS (i + 2) tz_13 (by omega) (by omega) d_Law_law_151 ?_
          refine x_V (As := [.int (xs (i + 1)), .int (xs (i + 2))]) (rest := []) hx hb hml hown hK (k_Mod_cell l D cA aM hiM I F nn mm en mk ch hch hWF (xs (i + 1)) (xs (i + 2))) t_854 t_4 t_851 t_852 t_853 yk_Mod_cell ⟨Nat.le_of_ble_eq_true rfl, Nat.le_of_ble_eq_true rfl⟩ (m_rec hK hM) hM rfl hl.1 rfl (Nat.le_of_ble_eq_true rfl) d_Law_law_152 hcs1 hS (fun q ⟨k9, h9, e9⟩ => by rw [e9]; exact hMs k9 h9) (fun r H2 locs hq hkk hS => ?_)
          have hP : va_P D classes (wl (List.range (56 + mm)) adr cn2) H2 := kpW hP hkk (fun n9 h9 _ ⟨k9, hk9, e9⟩ => hdj n9 h9 k9 hk9 e9)
          have hO : va_at D classes (ao, OUT cA g) H2 := kpO hO hkk (fun _ ⟨k9, hk9, e9⟩ => hmo k9 hk9 e9.symm)
          obtain ⟨z2, rfl, hz2, I2, F2, c2, h02, h20, hSm, hM⟩ := hq
          rw [if_neg hcd] at hSm
          have hth : (I2 0).toInt = cd.toInt := by rw [h02, ← hcd2, Int32.ofInt_toInt]
          refine W.eq (g2 := F0 m 155 ls [.int z2]) rfl ?_
          refine lv_istore (lv' := [(6, .int z2), (5, .int cd), (0, .ref b), (1, .ref ax), (2, .ref (aM 0)), (3, .ref ao), (4, .int x4)]) hx hb d_Law_law_155 hl (by decide) rfl (fun ls hl => ?_)
          refine lv_aload_n hx hb d_Law_law_157 rfl (lv_at hl 4 rfl) ?_
          refine x_V (As := []) (rest := []) hx hb hml hown hK (k_Mod_thrown l D cA aM hiM I2 F2) t_850 t_4 t_847 t_848 t_849 yk_Mod_thrown ⟨Nat.le_of_ble_eq_true rfl, Nat.le_of_ble_eq_true rfl⟩ (m_rec hK hM) hM rfl hl.1 rfl (Nat.le_of_ble_eq_true rfl) d_Law_law_158 hcs1 hS (fun q ⟨k9, h9, e9⟩ => by rw [e9]; exact hMs k9 h9) (fun r H3 locs hq hkk hS => ?_)
          have hP : va_P D classes (wl (List.range (56 + mm)) adr cn2) H3 := kpW hP hkk (fun n9 h9 _ ⟨k9, hk9, e9⟩ => hdj n9 h9 k9 hk9 e9)
          have hO : va_at D classes (ao, OUT cA g) H3 := kpO hO hkk (fun _ ⟨k9, hk9, e9⟩ => hmo k9 hk9 e9.symm)
          obtain ⟨rfl, hM⟩ := hq
          refine W.eq (g2 := F0 m 161 ls [.int (I2 0)]) rfl ?_
          refine lv_iload hx hb d_Law_law_161 (lv_at hl 1 rfl) ?_
          refine b_icmp_eq (tgt := 168) hx hb d_Law_law_163 (by decide) rfl rfl (fun c_14 => ?_) (fun c_14 => ?_)
          · refine lv_iload hx hb d_Law_law_168 (lv_at hl 1 rfl) ?_
            refine b_if_ne (tgt := 185) hx hb d_Law_law_170 (by decide) rfl (fun c_15 => ?_) (fun c_15 => ?_)
            · refine lv_goto (tgt := 930) hx hb d_Law_law_185 (by decide) ?_
              exact hB _ _ _ (li_mk hWF hSm h20 hM had hi hC2 hP hO hsz hao hdj) hS (lv_sub hl [2, 3, 4, 5, 6] rfl)
            · exact absurd c_15 hcdn
          · exact absurd hth c_14
      by_cases c_16 : ((xs i) &&& (31 : Int32)).toInt = 1
      · have e_16 : ((xs i) &&& (31 : Int32)).toInt = 1 := (rfl).trans c_16
        refine lv_tableIn (off := 149) (tgt := 188) hx hb d_Law_law_39 (by rw [e_16]; decide) (by rw [e_16]; decide) (by rw [e_16]; rfl) (by decide) ?_
        refine lv_aload_n hx hb d_Law_law_188 rfl (lv_at hl 1 rfl) ?_
        refine lv_aload_n hx hb d_Law_law_189 rfl (lv_at hl 0 rfl) ?_
        refine lv_iload hx hb d_Law_law_190 (lv_at hl 4 rfl) ?_
        refine lv_iconst (v := 1) hx hb d_Law_law_192 (by decide) ?_
        refine x_add hx hb d_Law_law_193 h4 kc_1 (by omega) (fun z_17 tz_17 => ?_)
        refine w_sld hx hb hX hbl hbA hS (i + 1) tz_17 (by omega) (by omega) d_Law_law_194 ?_
        refine lv_aload_n hx hb d_Law_law_195 rfl (lv_at hl 0 rfl) ?_
        refine lv_iload hx hb d_Law_law_196 (lv_at hl 4 rfl) ?_
        refine lv_iconst (v := 2) hx hb d_Law_law_198 (by decide) ?_
        refine x_add hx hb d_Law_law_199 h4 kc_2 (by omega) (fun z_18 tz_18 => ?_)
        refine w_sld hx hb hX hbl hbA hS (i + 2) tz_18 (by omega) (by omega) d_Law_law_200 ?_
        refine lv_aload_n hx hb d_Law_law_201 rfl (lv_at hl 0 rfl) ?_
        refine lv_iload hx hb d_Law_law_202 (lv_at hl 4 rfl) ?_
        refine lv_iconst (v := 3) hx hb d_Law_law_204 (by decide) ?_
        refine x_add hx hb d_Law_law_205 h4 kc_3 (by omega) (fun z_19 tz_19 => ?_)
        refine w_sld hx hb hX hbl hbA hS (i + 3) tz_19 (by omega) (by omega) d_Law_law_206 ?_
        refine lv_aload_n hx hb d_Law_law_207 rfl (lv_at hl 0 rfl) ?_
        refine lv_iload hx hb d_Law_law_208 (lv_at hl 4 rfl) ?_
        refine lv_iconst (v := 4) hx hb d_Law_law_210 (by decide) ?_
        refine x_add hx hb d_Law_law_211 h4 kc_4 (by omega) (fun z_20 tz_20 => ?_)
        refine w_sld hx hb hX hbl hbA hS (i + 4) tz_20 (by omega) (by omega) d_Law_law_212 ?_
        refine lv_aload_n hx hb d_Law_law_213 rfl (lv_at hl 3 rfl) ?_
        have hMl : ∀ k ∈ mN, aM k < H.size := fun k hk => by obtain ⟨j, hj⟩ := List.getElem?_of_mem hk; exact (hM j _ (wl_at hj)).lt
        have hOl := hO.lt; have hSz := hS.1
        refine l_SH (As := [.ref (adr 0), .int (xs (i + 1)), .int (xs (i + 2)), .int (xs (i + 3)), .int (xs (i + 4)), .ref ao]) (rest := []) hx hb hml hown hK (k_Law_relate l htr D cA H.size adr cn ao g F I nn mm en mk (List.range (56 + mm)) rfl hi hao x dn hCP hWF (xs (i + 1)) (xs (i + 2)) (xs (i + 3)) (xs (i + 4))) t_482 t_0 t_480 t_481 yk_Law_relate ⟨Nat.le_of_ble_eq_true rfl, Nat.le_of_ble_eq_true rfl⟩ (hThs H locs hS) hNC hP hO hS (fun q h9 => by rcases h9 with ⟨n9, h9, e9⟩ | e9 | e9; (rw [e9]; exact hsz n9 h9); (rw [e9]; exact haos); exact Nat.le_trans hS.1 e9) rfl hl.1 (by rw [had]; rfl) (Nat.le_of_ble_eq_true rfl) d_Law_law_214 hcs2 (fun r H1 locs hq hkk hzz hS => ?_)
        have hM : MP D cA aM I F H1 := kpW hM hkk (fun k9 hk9 hlt9 h9 => by rcases h9 with ⟨n9, h9, e9⟩ | e9 | e9; exact hdj n9 h9 k9 hk9 e9.symm; exact hmo k9 hk9 e9; omega)
        rcases hq with ⟨hcd, z1, g2, adr2, cn2, x2, rfl, hz1, hg2, hO, hag, hi2, hC2, hP, hA2⟩ | ⟨hcd, cd, rfl, hcd2, hO, cn2, x2, dn2, hC2, hP⟩
        · have hdj2 : ∀ n ∈ List.range (56 + (mm + 1)), ∀ k ∈ mN, adr2 n ≠ aM k := fun n hn k hk e9 => by rcases hA2 n hn with ⟨j, e8, h⟩ | h; (obtain ⟨n9, hn9, h2⟩ := wl_of h; exact hdj n9 (List.mem_of_getElem? hn9) k hk ((congrArg Prod.fst h2).symm.trans e9)); (rw [e9] at h; exact absurd (hMl k hk) (by omega))
          have hsz2 : ∀ n ∈ List.range (56 + (mm + 1)), s.heap.size ≤ adr2 n := fun n hn => by rcases hA2 n hn with ⟨j, e8, h⟩ | h; (obtain ⟨n9, hn9, h2⟩ := wl_of h; rw [show adr2 n = adr n9 from congrArg Prod.fst h2]; exact hsz n9 (List.mem_of_getElem? hn9)); exact Nat.le_trans hSz h
          have hao2 : ∀ n ∈ List.range (56 + (mm + 1)), adr2 n ≠ ao := fun n hn e9 => by rcases hA2 n hn with ⟨j, e8, h⟩ | h; (obtain ⟨n9, hn9, h2⟩ := wl_of h; exact hao n9 (List.mem_of_getElem? hn9) ((congrArg Prod.fst h2).symm.trans e9)); (rw [e9] at h; exact absurd hOl (by omega))
          refine W.eq (g2 := F0 m 217 ls [.int (0 : Int32)]) rfl ?_
          refine lv_istore (lv' := [(5, .int (0 : Int32)), (0, .ref b), (1, .ref ax), (2, .ref (aM 0)), (3, .ref ao), (4, .int x4)]) hx hb d_Law_law_217 hl (by decide) rfl (fun ls hl => ?_)
          refine lv_aload_n hx hb d_Law_law_219 rfl (lv_at hl 3 rfl) ?_
          refine lv_aload_n hx hb d_Law_law_220 rfl (lv_at hl 1 rfl) ?_
          refine lv_iload hx hb d_Law_law_221 (lv_at hl 5 rfl) ?_
          refine lv_iconst (v := 1) hx hb d_Law_law_223 (by decide) ?_
          refine x_add hx hb d_Law_law_224 h4 kc_1 (by omega) (fun z_21 tz_21 => ?_)
          refine w_sld hx hb hX hbl hbA hS (i + 1) tz_21 (by omega) (by omega) d_Law_law_225 ?_
          refine lv_aload_n hx hb d_Law_law_226 rfl (lv_at hl 1 rfl) ?_
          refine lv_iload hx hb d_Law_law_227 (lv_at hl 5 rfl) ?_
          refine lv_iconst (v := 2) hx hb d_Law_law_229 (by decide) ?_
          refine x_add hx hb d_Law_law_230 h4 kc_2 (by omega) (fun z_22 tz_22 => ?_)
          refine w_sld hx hb hX hbl hbA hS (i + 2) tz_22 (by omega) (by omega) d_Law_law_231 ?_
          refine lv_aload_n hx hb d_Law_law_232 rfl (lv_at hl 1 rfl) ?_
          refine lv_iload hx hb d_Law_law_233 (lv_at hl 5 rfl) ?_
          refine lv_iconst (v := 3) hx hb d_Law_law_235 (by decide) ?_
          refine x_add hx hb d_Law_law_236 h4 kc_3 (by omega) (fun z_23 tz_23 => ?_)
          refine w_sld hx hb hX hbl hbA hS (i + 3) tz_23 (by omega) (by omega) d_Law_law_237 ?_
          refine lv_aload_n hx hb d_Law_law_238 rfl (lv_at hl 1 rfl) ?_
          refine lv_iload hx hb d_Law_law_239 (lv_at hl 5 rfl) ?_
          refine lv_iconst (v := 4) hx hb d_Law_law_241 (by decide) ?_
          refine x_add hx hb d_Law_law_242 h4 kc_4 (by omega) (fun z_24 tz_24 => ?_)
          refine w_sld hx hb hX hbl hbA hS (i + 4) tz_24 (by omega) (by omega) d_Law_law_243 ?_
          refine x_V (As := [.int (xs (i + 1)), .int (xs (i + 2)), .int (xs (i + 3)), .int (xs (i + 4))]) (rest := []) hx hb hml hown hK (k_Mod_relate l D cA aM hiM I F nn mm en mk ch hch hWF (xs (i + 1)) (xs (i + 2)) (xs (i + 3)) (xs (i + 4))) t_865 t_4 t_862 t_863 t_864 yk_Mod_relate ⟨Nat.le_of_ble_eq_true rfl, Nat.le_of_ble_eq_true rfl⟩ (m_rec hK hM) hM rfl hl.1 rfl (Nat.le_of_ble_eq_true rfl) d_Law_law_244 hcs1 hS (fun q ⟨k9, h9, e9⟩ => by rw [e9]; exact hMs k9 h9) (fun r H2 locs hq hkk hS => ?_)
          have hP : va_P D classes (wl (List.range (56 + (mm + 1))) adr2 cn2) H2 := kpW hP hkk (fun n9 h9 _ ⟨k9, hk9, e9⟩ => hdj2 n9 h9 k9 hk9 e9)
          have hO : va_at D classes (ao, OUT cA g2) H2 := kpO hO hkk (fun _ ⟨k9, hk9, e9⟩ => hmo k9 hk9 e9.symm)
          obtain ⟨z2, rfl, hz2, I2, F2, c2, h02, h20, hSm, hM⟩ := hq
          rw [if_pos hcd] at hSm
          have hz2 := hz2 hcd
          have hth : (I2 0).toInt = 0 := by rw [h02, hcd]; rfl
          refine W.eq (g2 := F0 m 247 ls [.int z2]) rfl ?_
          refine lv_istore (lv' := [(6, .int z2), (5, .int (0 : Int32)), (0, .ref b), (1, .ref ax), (2, .ref (aM 0)), (3, .ref ao), (4, .int x4)]) hx hb d_Law_law_247 hl (by decide) rfl (fun ls hl => ?_)
          refine lv_aload_n hx hb d_Law_law_249 rfl (lv_at hl 4 rfl) ?_
          refine x_V (As := []) (rest := []) hx hb hml hown hK (k_Mod_thrown l D cA aM hiM I2 F2) t_850 t_4 t_847 t_848 t_849 yk_Mod_thrown ⟨Nat.le_of_ble_eq_true rfl, Nat.le_of_ble_eq_true rfl⟩ (m_rec hK hM) hM rfl hl.1 rfl (Nat.le_of_ble_eq_true rfl) d_Law_law_250 hcs1 hS (fun q ⟨k9, h9, e9⟩ => by rw [e9]; exact hMs k9 h9) (fun r H3 locs hq hkk hS => ?_)
          have hP : va_P D classes (wl (List.range (56 + (mm + 1))) adr2 cn2) H3 := kpW hP hkk (fun n9 h9 _ ⟨k9, hk9, e9⟩ => hdj2 n9 h9 k9 hk9 e9)
          have hO : va_at D classes (ao, OUT cA g2) H3 := kpO hO hkk (fun _ ⟨k9, hk9, e9⟩ => hmo k9 hk9 e9.symm)
          obtain ⟨rfl, hM⟩ := hq
          refine W.eq (g2 := F0 m 253 ls [.int (I2 0)]) rfl ?_
          refine lv_iload hx hb d_Law_law_253 (lv_at hl 1 rfl) ?_
          refine b_icmp_eq (tgt := 260) hx hb d_Law_law_255 (by decide) rfl kc_0 (fun c_25 => ?_) (fun c_25 => ?_)
          · refine lv_iload hx hb d_Law_law_260 (lv_at hl 1 rfl) ?_
            refine b_if_ne (tgt := 277) hx hb d_Law_law_262 (by decide) kc_0 (fun c_26 => ?_) (fun c_26 => ?_)
            · exact absurd c_26 (by decide)
            · refine lv_aload_n hx hb d_Law_law_265 rfl (lv_at hl 5 rfl) ?_
              refine lv_iconst (v := 0) hx hb d_Law_law_266 (by decide) ?_
              refine w_oal hx hb hK hO d_Law_law_267 ?_
              refine lv_iload hx hb d_Law_law_268 (lv_at hl 0 rfl) ?_
              refine lv_i2l hx hb d_Law_law_270 rfl ?_
              have hzz : z1 = z2 := i32_eq (hz1.trans hz2.symm)
              refine W.lcmp hx hb d_Law_law_271 ?_
              refine W.eq (g2 := F0 m 272 ls [.int 0]) (by rw [hg2, hzz, lg_self]; rfl) ?_
              refine b_if_eq (tgt := 277) hx hb d_Law_law_272 (by decide) kc_0 (fun c_27 => ?_) (fun c_27 => ?_)
              · refine lv_goto (tgt := 930) hx hb d_Law_law_277 (by decide) ?_
                exact hB _ _ _ (li_mk (hWF.rel (br_0 hcd).2 (br_0 hcd).1) hSm h20 hM ((hag 0 (by omega)).trans had) hi2 hC2 hP hO hsz2 hao2 hdj2) hS (lv_sub hl [2, 3, 4, 5, 6] rfl)
              · exact absurd c_27 (by decide)
          · exact absurd hth c_25
        · have hcdn : ¬ cd.toInt = 0 := by rw [hcd2]; exact hcd
          refine W.eq (g2 := F0 m 217 ls [.int cd]) rfl ?_
          refine lv_istore (lv' := [(5, .int cd), (0, .ref b), (1, .ref ax), (2, .ref (aM 0)), (3, .ref ao), (4, .int x4)]) hx hb d_Law_law_217 hl (by decide) rfl (fun ls hl => ?_)
          refine lv_aload_n hx hb d_Law_law_219 rfl (lv_at hl 3 rfl) ?_
          refine lv_aload_n hx hb d_Law_law_220 rfl (lv_at hl 1 rfl) ?_
          refine lv_iload hx hb d_Law_law_221 (lv_at hl 5 rfl) ?_
          refine lv_iconst (v := 1) hx hb d_Law_law_223 (by decide) ?_
          refine x_add hx hb d_Law_law_224 h4 kc_1 (by omega) (fun z_28 tz_28 => ?_)
          refine w_sld hx hb hX hbl hbA hS (i + 1) tz_28 (by omega) (by omega) d_Law_law_225 ?_
          refine lv_aload_n hx hb d_Law_law_226 rfl (lv_at hl 1 rfl) ?_
          refine lv_iload hx hb d_Law_law_227 (lv_at hl 5 rfl) ?_
          refine lv_iconst (v := 2) hx hb d_Law_law_229 (by decide) ?_
          refine x_add hx hb d_Law_law_230 h4 kc_2 (by omega) (fun z_29 tz_29 => ?_)
          refine w_sld hx hb hX hbl hbA hS (i + 2) tz_29 (by omega) (by omega) d_Law_law_231 ?_
          refine lv_aload_n hx hb d_Law_law_232 rfl (lv_at hl 1 rfl) ?_
          refine lv_iload hx hb d_Law_law_233 (lv_at hl 5 rfl) ?_
          refine lv_iconst (v := 3) hx hb d_Law_law_235 (by decide) ?_
          refine x_add hx hb d_Law_law_236 h4 kc_3 (by omega) (fun z_30 tz_30 => ?_)
          refine w_sld hx hb hX hbl hbA hS (i + 3) tz_30 (by omega) (by omega) d_Law_law_237 ?_
          refine lv_aload_n hx hb d_Law_law_238 rfl (lv_at hl 1 rfl) ?_
          refine lv_iload hx hb d_Law_law_239 (lv_at hl 5 rfl) ?_
          refine lv_iconst (v := 4) hx hb d_Law_law_241 (by decide) ?_
          refine x_add hx hb d_Law_law_242 h4 kc_4 (by omega) (fun z_31 tz_31 => ?_)
          refine w_sld hx hb hX hbl hbA hS (i + 4) tz_31 (by omega) (by omega) d_Law_law_243 ?_
          refine x_V (As := [.int (xs (i + 1)), .int (xs (i + 2)), .int (xs (i + 3)), .int (xs (i + 4))]) (rest := []) hx hb hml hown hK (k_Mod_relate l D cA aM hiM I F nn mm en mk ch hch hWF (xs (i + 1)) (xs (i + 2)) (xs (i + 3)) (xs (i + 4))) t_865 t_4 t_862 t_863 t_864 yk_Mod_relate ⟨Nat.le_of_ble_eq_true rfl, Nat.le_of_ble_eq_true rfl⟩ (m_rec hK hM) hM rfl hl.1 rfl (Nat.le_of_ble_eq_true rfl) d_Law_law_244 hcs1 hS (fun q ⟨k9, h9, e9⟩ => by rw [e9]; exact hMs k9 h9) (fun r H2 locs hq hkk hS => ?_)
          have hP : va_P D classes (wl (List.range (56 + mm)) adr cn2) H2 := kpW hP hkk (fun n9 h9 _ ⟨k9, hk9, e9⟩ => hdj n9 h9 k9 hk9 e9)
          have hO : va_at D classes (ao, OUT cA g) H2 := kpO hO hkk (fun _ ⟨k9, hk9, e9⟩ => hmo k9 hk9 e9.symm)
          obtain ⟨z2, rfl, hz2, I2, F2, c2, h02, h20, hSm, hM⟩ := hq
          rw [if_neg hcd] at hSm
          have hth : (I2 0).toInt = cd.toInt := by rw [h02, ← hcd2, Int32.ofInt_toInt]
          refine W.eq (g2 := F0 m 247 ls [.int z2]) rfl ?_
          refine lv_istore (lv' := [(6, .int z2), (5, .int cd), (0, .ref b), (1, .ref ax), (2, .ref (aM 0)), (3, .ref ao), (4, .int x4)]) hx hb d_Law_law_247 hl (by decide) rfl (fun ls hl => ?_)
          refine lv_aload_n hx hb d_Law_law_249 rfl (lv_at hl 4 rfl) ?_
          refine x_V (As := []) (rest := []) hx hb hml hown hK (k_Mod_thrown l D cA aM hiM I2 F2) t_850 t_4 t_847 t_848 t_849 yk_Mod_thrown ⟨Nat.le_of_ble_eq_true rfl, Nat.le_of_ble_eq_true rfl⟩ (m_rec hK hM) hM rfl hl.1 rfl (Nat.le_of_ble_eq_true rfl) d_Law_law_250 hcs1 hS (fun q ⟨k9, h9, e9⟩ => by rw [e9]; exact hMs k9 h9) (fun r H3 locs hq hkk hS => ?_)
          have hP : va_P D classes (wl (List.range (56 + mm)) adr cn2) H3 := kpW hP hkk (fun n9 h9 _ ⟨k9, hk9, e9⟩ => hdj n9 h9 k9 hk9 e9)
          have hO : va_at D classes (ao, OUT cA g) H3 := kpO hO hkk (fun _ ⟨k9, hk9, e9⟩ => hmo k9 hk9 e9.symm)
          obtain ⟨rfl, hM⟩ := hq
          refine W.eq (g2 := F0 m 253 ls [.int (I2 0)]) rfl ?_
          refine lv_iload hx hb d_Law_law_253 (lv_at hl 1 rfl) ?_
          refine b_icmp_eq (tgt := 260) hx hb d_Law_law_255 (by decide) rfl rfl (fun c_32 => ?_) (fun c_32 => ?_)
          · refine lv_iload hx hb d_Law_law_260 (lv_at hl 1 rfl) ?_
            refine b_if_ne (tgt := 277) hx hb d_Law_law_262 (by decide) rfl (fun c_33 => ?_) (fun c_33 => ?_)
            · refine lv_goto (tgt := 930) hx hb d_Law_law_277 (by decide) ?_
              exact hB _ _ _ (li_mk hWF hSm h20 hM had hi hC2 hP hO hsz hao hdj) hS (lv_sub hl [2, 3, 4, 5, 6] rfl)
            · exact absurd c_33 hcdn
          · exact absurd hth c_32
      by_cases c_34 : ((xs i) &&& (31 : Int32)).toInt = 2
      · have e_34 : ((xs i) &&& (31 : Int32)).toInt = 2 := (rfl).trans c_34
        refine lv_tableIn (off := 241) (tgt := 280) hx hb d_Law_law_39 (by rw [e_34]; decide) (by rw [e_34]; decide) (by rw [e_34]; rfl) (by decide) ?_
        refine lv_aload_n hx hb d_Law_law_280 rfl (lv_at hl 1 rfl) ?_
        refine lv_aload_n hx hb d_Law_law_281 rfl (lv_at hl 0 rfl) ?_
        refine lv_iload hx hb d_Law_law_282 (lv_at hl 4 rfl) ?_
        refine lv_iconst (v := 1) hx hb d_Law_law_284 (by decide) ?_
        refine x_add hx hb d_Law_law_285 h4 kc_1 (by omega) (fun z_35 tz_35 => ?_)
        refine w_sld hx hb hX hbl hbA hS (i + 1) tz_35 (by omega) (by omega) d_Law_law_286 ?_
        refine lv_aload_n hx hb d_Law_law_287 rfl (lv_at hl 0 rfl) ?_
        refine lv_iload hx hb d_Law_law_288 (lv_at hl 4 rfl) ?_
        refine lv_iconst (v := 2) hx hb d_Law_law_290 (by decide) ?_
        refine x_add hx hb d_Law_law_291 h4 kc_2 (by omega) (fun z_36 tz_36 => ?_)
        refine w_sld hx hb hX hbl hbA hS (i + 2) tz_36 (by omega) (by omega) d_Law_law_292 ?_
        have K_237 : ∀ (b_237_0 : Bool), (b_237_0 = true ↔ ¬ (xs (i + 2)).toInt = 0) → W p l e room_1 s m args below meth c H locs cells slots Q (F0 m 301 ls [.int (bi b_237_0), .int (xs (i + 1)), .ref ax]) := by
          intro b_237_0 hb_237_0
          refine x_V (As := [.int (xs (i + 1)), .int (bi b_237_0)]) (rest := []) hx hb hml hown hK (k_Sht_hold l D cA adr (List.range (56 + mm)) hi cn F I nn mm en mk x dn hCP hNm hWF (xs (i + 1)) b_237_0) t_146 t_1 t_143 t_144 t_145 yk_Sht_hold ⟨Nat.le_of_ble_eq_true rfl, Nat.le_of_ble_eq_true rfl⟩ (w_rec hK hP (hNm 0 (by omega)) hCP.1.1 rfl) hP rfl hl.1 (by rw [had]; rfl) (Nat.le_of_ble_eq_true rfl) d_Law_law_301 hcs hS (fun q ⟨n9, h9, e9⟩ => by rw [e9]; exact hsz n9 h9) (fun r H1 locs hq hkk hS => ?_)
          have hM : MP D cA aM I F H1 := kpW hM hkk (fun k9 hk9 _ ⟨n9, h9, e9⟩ => hdj n9 h9 k9 hk9 e9.symm)
          have hO : va_at D classes (ao, OUT cA g) H1 := kpO hO hkk (fun _ ⟨n9, h9, e9⟩ => hao n9 h9 e9.symm)
          obtain ⟨rfl, cn2, x2, dn2, hC2, hP⟩ := hq
          refine W.eq (g2 := F0 m 304 ls [.int (bi (q_hold F mm (xs (i + 1)).toInt b_237_0))]) rfl ?_
          refine lv_aload_n hx hb d_Law_law_304 rfl (lv_at hl 2 rfl) ?_
          refine lv_aload_n hx hb d_Law_law_305 rfl (lv_at hl 0 rfl) ?_
          refine lv_iload hx hb d_Law_law_306 (lv_at hl 4 rfl) ?_
          refine lv_iconst (v := 1) hx hb d_Law_law_308 (by decide) ?_
          refine x_add hx hb d_Law_law_309 h4 kc_1 (by omega) (fun z_238 tz_238 => ?_)
          refine w_sld hx hb hX hbl hbA hS (i + 1) tz_238 (by omega) (by omega) d_Law_law_310 ?_
          refine lv_aload_n hx hb d_Law_law_311 rfl (lv_at hl 0 rfl) ?_
          refine lv_iload hx hb d_Law_law_312 (lv_at hl 4 rfl) ?_
          refine lv_iconst (v := 2) hx hb d_Law_law_314 (by decide) ?_
          refine x_add hx hb d_Law_law_315 h4 kc_2 (by omega) (fun z_239 tz_239 => ?_)
          refine w_sld hx hb hX hbl hbA hS (i + 2) tz_239 (by omega) (by omega) d_Law_law_316 ?_
          have K_440 : ∀ (b_440_0 : Bool), (b_440_0 = true ↔ ¬ (xs (i + 2)).toInt = 0) → W p l e room_1 s m args below meth c H locs cells slots Q (F0 m 325 ls [.int (bi b_440_0), .int (xs (i + 1)), .ref (aM 0), .int (bi (q_hold F mm (xs (i + 1)).toInt b_237_0))]) := by
            intro b_440_0 hb_440_0
            have hbb : b_440_0 = b_237_0 := bb_of (hb_237_0.trans hb_440_0.symm)
            rw [hbb]
            refine x_V (As := [.int (xs (i + 1)), .int (bi b_237_0)]) (rest := [.int (bi (q_hold F mm (xs (i + 1)).toInt b_237_0))]) hx hb hml hown hK (k_Mod_hold l D cA aM hiM I F nn mm en mk ch hch hWF (xs (i + 1)) b_237_0) t_883 t_4 t_880 t_881 t_882 yk_Mod_hold ⟨Nat.le_of_ble_eq_true rfl, Nat.le_of_ble_eq_true rfl⟩ (m_rec hK hM) hM rfl hl.1 rfl (Nat.le_of_ble_eq_true rfl) d_Law_law_325 hcs hS (fun q ⟨k9, h9, e9⟩ => by rw [e9]; exact hMs k9 h9) (fun r H2 locs hq hkk hS => ?_)
            have hP : va_P D classes (wl (List.range (56 + mm)) adr cn2) H2 := kpW hP hkk (fun n9 h9 _ ⟨k9, hk9, e9⟩ => hdj n9 h9 k9 hk9 e9)
            have hO : va_at D classes (ao, OUT cA g) H2 := kpO hO hkk (fun _ ⟨k9, hk9, e9⟩ => hmo k9 hk9 e9.symm)
            obtain ⟨rfl, I2, F2, c2, h02, h20, hSm, hM⟩ := hq
            refine W.eq (g2 := F0 m 328 ls [.int (bi (q_hold F mm (xs (i + 1)).toInt b_237_0)), .int (bi (q_hold F mm (xs (i + 1)).toInt b_237_0))]) rfl ?_
            refine bb_icmp_eq (tgt := 930) hx hb d_Law_law_328 (by decide) (fun c_441 => ?_) (fun c_441 => ?_)
            · exact W_up (Nat.le_succ _) (Nat.le_add_right _ _) (hB _ _ _ (li_mk hWF.hold hSm h20 hM had hi hC2 hP hO hsz hao hdj) hS (lv_sub hl [0, 1, 2, 3, 4] rfl))
            · exact absurd rfl c_441
          refine b_if_eq (tgt := 324) hx hb d_Law_law_317 (by decide) rfl (fun c_442 => ?_) (fun c_442 => ?_)
          · refine lv_iconst (v := 0) hx hb d_Law_law_324 (by decide) ?_
            exact K_440 false ⟨fun h => absurd h (by decide), fun h => absurd h (by omega)⟩
          · refine lv_iconst (v := 1) hx hb d_Law_law_320 (by decide) ?_
            refine lv_goto (tgt := 325) hx hb d_Law_law_321 (by decide) ?_
            exact K_440 true ⟨fun _ => by omega, fun _ => rfl⟩
        refine b_if_eq (tgt := 300) hx hb d_Law_law_293 (by decide) rfl (fun c_443 => ?_) (fun c_443 => ?_)
        · refine lv_iconst (v := 0) hx hb d_Law_law_300 (by decide) ?_
          exact K_237 false ⟨fun h => absurd h (by decide), fun h => absurd h (by omega)⟩
        · refine lv_iconst (v := 1) hx hb d_Law_law_296 (by decide) ?_
          refine lv_goto (tgt := 301) hx hb d_Law_law_297 (by decide) ?_
          exact K_237 true ⟨fun _ => by omega, fun _ => rfl⟩
      by_cases c_444 : ((xs i) &&& (31 : Int32)).toInt = 3
      · have e_444 : ((xs i) &&& (31 : Int32)).toInt = 3 := (rfl).trans c_444
        refine lv_tableIn (off := 294) (tgt := 333) hx hb d_Law_law_39 (by rw [e_444]; decide) (by rw [e_444]; decide) (by rw [e_444]; rfl) (by decide) ?_
        refine lv_aload_n hx hb d_Law_law_333 rfl (lv_at hl 1 rfl) ?_
        refine lv_aload_n hx hb d_Law_law_334 rfl (lv_at hl 0 rfl) ?_
        refine lv_iload hx hb d_Law_law_335 (lv_at hl 4 rfl) ?_
        refine lv_iconst (v := 1) hx hb d_Law_law_337 (by decide) ?_
        refine x_add hx hb d_Law_law_338 h4 kc_1 (by omega) (fun z_445 tz_445 => ?_)
        refine w_sld hx hb hX hbl hbA hS (i + 1) tz_445 (by omega) (by omega) d_Law_law_339 ?_
        refine lv_aload_n hx hb d_Law_law_340 rfl (lv_at hl 0 rfl) ?_
        refine lv_iload hx hb d_Law_law_341 (lv_at hl 4 rfl) ?_
        refine lv_iconst (v := 2) hx hb d_Law_law_343 (by decide) ?_
        refine x_add hx hb d_Law_law_344 h4 kc_2 (by omega) (fun z_446 tz_446 => ?_)
        refine w_sld hx hb hX hbl hbA hS (i + 2) tz_446 (by omega) (by omega) d_Law_law_345 ?_
        refine lv_aload_n hx hb d_Law_law_346 rfl (lv_at hl 0 rfl) ?_
        refine lv_iload hx hb d_Law_law_347 (lv_at hl 4 rfl) ?_
        refine lv_iconst (v := 3) hx hb d_Law_law_349 (by decide) ?_
        refine x_add hx hb d_Law_law_350 h4 kc_3 (by omega) (fun z_447 tz_447 => ?_)
        refine w_sld hx hb hX hbl hbA hS (i + 3) tz_447 (by omega) (by omega) d_Law_law_351 ?_
        refine x_V (As := [.int (xs (i + 1)), .int (xs (i + 2)), .int (xs (i + 3))]) (rest := []) hx hb hml hown hK (k_Sht_row l D cA adr (List.range (56 + mm)) hi cn F I nn mm en mk x dn hCP hNm hWF (xs (i + 1)) (xs (i + 2)) (xs (i + 3))) t_153 t_1 t_150 t_151 t_152 yk_Sht_row ⟨Nat.le_of_ble_eq_true rfl, Nat.le_of_ble_eq_true rfl⟩ (w_rec hK hP (hNm 0 (by omega)) hCP.1.1 rfl) hP rfl hl.1 (by rw [had]; rfl) (Nat.le_of_ble_eq_true rfl) d_Law_law_352 hcs hS (fun q ⟨n9, h9, e9⟩ => by rw [e9]; exact hsz n9 h9) (fun r H1 locs hq hkk hS => ?_)
        have hM : MP D cA aM I F H1 := kpW hM hkk (fun k9 hk9 _ ⟨n9, h9, e9⟩ => hdj n9 h9 k9 hk9 e9.symm)
        have hO : va_at D classes (ao, OUT cA g) H1 := kpO hO hkk (fun _ ⟨n9, h9, e9⟩ => hao n9 h9 e9.symm)
        rcases hq with ⟨z1, rfl, ⟨hno, hz1, cn2, x2, dn2, hC2, hP⟩ | ⟨hqr, hz1, cn2, x2, dn2, hC2, hP⟩⟩
        · refine W.eq (g2 := F0 m 355 ls [.int z1]) rfl ?_
          refine lv_aload_n hx hb d_Law_law_355 rfl (lv_at hl 2 rfl) ?_
          refine lv_aload_n hx hb d_Law_law_356 rfl (lv_at hl 0 rfl) ?_
          refine lv_iload hx hb d_Law_law_357 (lv_at hl 4 rfl) ?_
          refine lv_iconst (v := 1) hx hb d_Law_law_359 (by decide) ?_
          refine x_add hx hb d_Law_law_360 h4 kc_1 (by omega) (fun z_448 tz_448 => ?_)
          refine w_sld hx hb hX hbl hbA hS (i + 1) tz_448 (by omega) (by omega) d_Law_law_361 ?_
          refine lv_aload_n hx hb d_Law_law_362 rfl (lv_at hl 0 rfl) ?_
          refine lv_iload hx hb d_Law_law_363 (lv_at hl 4 rfl) ?_
          refine lv_iconst (v := 2) hx hb d_Law_law_365 (by decide) ?_
          refine x_add hx hb d_Law_law_366 h4 kc_2 (by omega) (fun z_449 tz_449 => ?_)
          refine w_sld hx hb hX hbl hbA hS (i + 2) tz_449 (by omega) (by omega) d_Law_law_367 ?_
          refine lv_aload_n hx hb d_Law_law_368 rfl (lv_at hl 0 rfl) ?_
          refine lv_iload hx hb d_Law_law_369 (lv_at hl 4 rfl) ?_
          refine lv_iconst (v := 3) hx hb d_Law_law_371 (by decide) ?_
          refine x_add hx hb d_Law_law_372 h4 kc_3 (by omega) (fun z_450 tz_450 => ?_)
          refine w_sld hx hb hX hbl hbA hS (i + 3) tz_450 (by omega) (by omega) d_Law_law_373 ?_
          refine x_V (As := [.int (xs (i + 1)), .int (xs (i + 2)), .int (xs (i + 3))]) (rest := [.int z1]) hx hb hml hown hK (k_Mod_row l D cA aM hiM I F nn mm en mk ch hch hWF (xs (i + 1)) (xs (i + 2)) (xs (i + 3))) t_887 t_4 t_884 t_885 t_886 yk_Mod_row ⟨Nat.le_of_ble_eq_true rfl, Nat.le_of_ble_eq_true rfl⟩ (m_rec hK hM) hM rfl hl.1 rfl (Nat.le_of_ble_eq_true rfl) d_Law_law_374 hcs hS (fun q ⟨k9, h9, e9⟩ => by rw [e9]; exact hMs k9 h9) (fun r H2 locs hq hkk hS => ?_)
          have hP : va_P D classes (wl (List.range (56 + mm)) adr cn2) H2 := kpW hP hkk (fun n9 h9 _ ⟨k9, hk9, e9⟩ => hdj n9 h9 k9 hk9 e9)
          have hO : va_at D classes (ao, OUT cA g) H2 := kpO hO hkk (fun _ ⟨k9, hk9, e9⟩ => hmo k9 hk9 e9.symm)
          obtain ⟨z2, rfl, hq2⟩ := hq
          refine W.eq (g2 := F0 m 377 ls [.int z2, .int z1]) rfl ?_
          rcases hq2 with ⟨hno2, hz2, I2, F2, c2, h02, h20, hSm, hM⟩ | ⟨hqr2, hz2, I2, F2, c2, h02, h20, hSm, hM⟩
          · refine b_icmp_eq (tgt := 930) hx hb d_Law_law_377 (by decide) rfl rfl (fun c_451 => ?_) (fun c_451 => ?_)
            · exact W_up (Nat.le_succ _) (Nat.le_add_right _ _) (hB _ _ _ (li_mk hWF hSm h20 hM had hi hC2 hP hO hsz hao hdj) hS (lv_sub hl [0, 1, 2, 3, 4] rfl))
            · exact absurd (hz1.trans hz2.symm) c_451
          · exact absurd hqr2 hno
        · refine W.eq (g2 := F0 m 355 ls [.int z1]) rfl ?_
          refine lv_aload_n hx hb d_Law_law_355 rfl (lv_at hl 2 rfl) ?_
          refine lv_aload_n hx hb d_Law_law_356 rfl (lv_at hl 0 rfl) ?_
          refine lv_iload hx hb d_Law_law_357 (lv_at hl 4 rfl) ?_
          refine lv_iconst (v := 1) hx hb d_Law_law_359 (by decide) ?_
          refine x_add hx hb d_Law_law_360 h4 kc_1 (by omega) (fun z_452 tz_452 => ?_)
          refine w_sld hx hb hX hbl hbA hS (i + 1) tz_452 (by omega) (by omega) d_Law_law_361 ?_
          refine lv_aload_n hx hb d_Law_law_362 rfl (lv_at hl 0 rfl) ?_
          refine lv_iload hx hb d_Law_law_363 (lv_at hl 4 rfl) ?_
          refine lv_iconst (v := 2) hx hb d_Law_law_365 (by decide) ?_
          refine x_add hx hb d_Law_law_366 h4 kc_2 (by omega) (fun z_453 tz_453 => ?_)
          refine w_sld hx hb hX hbl hbA hS (i + 2) tz_453 (by omega) (by omega) d_Law_law_367 ?_
          refine lv_aload_n hx hb d_Law_law_368 rfl (lv_at hl 0 rfl) ?_
          refine lv_iload hx hb d_Law_law_369 (lv_at hl 4 rfl) ?_
          refine lv_iconst (v := 3) hx hb d_Law_law_371 (by decide) ?_
          refine x_add hx hb d_Law_law_372 h4 kc_3 (by omega) (fun z_454 tz_454 => ?_)
          refine w_sld hx hb hX hbl hbA hS (i + 3) tz_454 (by omega) (by omega) d_Law_law_373 ?_
          refine x_V (As := [.int (xs (i + 1)), .int (xs (i + 2)), .int (xs (i + 3))]) (rest := [.int z1]) hx hb hml hown hK (k_Mod_row l D cA aM hiM I F nn mm en mk ch hch hWF (xs (i + 1)) (xs (i + 2)) (xs (i + 3))) t_887 t_4 t_884 t_885 t_886 yk_Mod_row ⟨Nat.le_of_ble_eq_true rfl, Nat.le_of_ble_eq_true rfl⟩ (m_rec hK hM) hM rfl hl.1 rfl (Nat.le_of_ble_eq_true rfl) d_Law_law_374 hcs hS (fun q ⟨k9, h9, e9⟩ => by rw [e9]; exact hMs k9 h9) (fun r H2 locs hq hkk hS => ?_)
          have hP : va_P D classes (wl (List.range (56 + mm)) adr cn2) H2 := kpW hP hkk (fun n9 h9 _ ⟨k9, hk9, e9⟩ => hdj n9 h9 k9 hk9 e9)
          have hO : va_at D classes (ao, OUT cA g) H2 := kpO hO hkk (fun _ ⟨k9, hk9, e9⟩ => hmo k9 hk9 e9.symm)
          obtain ⟨z2, rfl, hq2⟩ := hq
          refine W.eq (g2 := F0 m 377 ls [.int z2, .int z1]) rfl ?_
          rcases hq2 with ⟨hno2, hz2, I2, F2, c2, h02, h20, hSm, hM⟩ | ⟨hqr2, hz2, I2, F2, c2, h02, h20, hSm, hM⟩
          · exact absurd hqr hno2
          · refine b_icmp_eq (tgt := 930) hx hb d_Law_law_377 (by decide) rfl rfl (fun c_455 => ?_) (fun c_455 => ?_)
            · exact W_up (Nat.le_succ _) (Nat.le_add_right _ _) (hB _ _ _ (li_mk (hWF.row hqr) hSm h20 hM had hi hC2 hP hO hsz hao hdj) hS (lv_sub hl [0, 1, 2, 3, 4] rfl))
            · exact absurd (hz1.trans hz2.symm) c_455
      by_cases c_456 : ((xs i) &&& (31 : Int32)).toInt = 4
      · have e_456 : ((xs i) &&& (31 : Int32)).toInt = 4 := (rfl).trans c_456
        refine lv_tableIn (off := 343) (tgt := 382) hx hb d_Law_law_39 (by rw [e_456]; decide) (by rw [e_456]; decide) (by rw [e_456]; rfl) (by decide) ?_
        refine lv_aload_n hx hb d_Law_law_382 rfl (lv_at hl 1 rfl) ?_
        refine lv_aload_n hx hb d_Law_law_383 rfl (lv_at hl 0 rfl) ?_
        refine lv_iload hx hb d_Law_law_384 (lv_at hl 4 rfl) ?_
        refine lv_iconst (v := 1) hx hb d_Law_law_386 (by decide) ?_
        refine x_add hx hb d_Law_law_387 h4 kc_1 (by omega) (fun z_457 tz_457 => ?_)
        refine w_sld hx hb hX hbl hbA hS (i + 1) tz_457 (by omega) (by omega) d_Law_law_388 ?_
        refine lv_aload_n hx hb d_Law_law_389 rfl (lv_at hl 0 rfl) ?_
        refine lv_iload hx hb d_Law_law_390 (lv_at hl 4 rfl) ?_
        refine lv_iconst (v := 2) hx hb d_Law_law_392 (by decide) ?_
        refine x_add hx hb d_Law_law_393 h4 kc_2 (by omega) (fun z_458 tz_458 => ?_)
        refine w_sld hx hb hX hbl hbA hS (i + 2) tz_458 (by omega) (by omega) d_Law_law_394 ?_
        refine lv_aload_n hx hb d_Law_law_395 rfl (lv_at hl 0 rfl) ?_
        refine lv_iload hx hb d_Law_law_396 (lv_at hl 4 rfl) ?_
        refine lv_iconst (v := 3) hx hb d_Law_law_398 (by decide) ?_
        refine x_add hx hb d_Law_law_399 h4 kc_3 (by omega) (fun z_459 tz_459 => ?_)
        refine w_sld hx hb hX hbl hbA hS (i + 3) tz_459 (by omega) (by omega) d_Law_law_400 ?_
        refine lv_aload_n hx hb d_Law_law_401 rfl (lv_at hl 3 rfl) ?_
        refine l_SH (As := [.ref (adr 0), .int (xs (i + 1)), .int (xs (i + 2)), .int (xs (i + 3)), .ref ao]) (rest := []) hx hb hml hown hK (k_Law_set l htr D cA H.size adr cn ao g F I nn mm en mk (List.range (56 + mm)) hi hNm hao x dn hCP hWF (xs (i + 1)) (xs (i + 2)) (xs (i + 3))) t_673 t_0 t_671 t_672 yk_Law_set ⟨Nat.le_of_ble_eq_true rfl, Nat.le_of_ble_eq_true rfl⟩ (hThs H locs hS) hNC hP hO hS (fun q h9 => by rcases h9 with ⟨n9, h9, e9⟩ | e9 | e9; (rw [e9]; exact hsz n9 h9); (rw [e9]; exact haos); exact Nat.le_trans hS.1 e9) rfl hl.1 (by rw [had]; rfl) (Nat.le_of_ble_eq_true rfl) d_Law_law_402 hcs2 (fun r H1 locs hq hkk hzz hS => ?_)
        have hM : MP D cA aM I F H1 := kpW hM hkk (fun k9 hk9 hlt9 h9 => by rcases h9 with ⟨n9, h9, e9⟩ | e9 | e9; exact hdj n9 h9 k9 hk9 e9.symm; exact hmo k9 hk9 e9; omega)
        rcases hq with ⟨hcd, z1, g2, rfl, hz1, hg2, hO, cn2, x2, dn2, hC2, hP⟩ | ⟨hcd, cd, rfl, hcd2, hO, cn2, x2, dn2, hC2, hP⟩
        · refine W.eq (g2 := F0 m 405 ls [.int (0 : Int32)]) rfl ?_
          refine lv_istore (lv' := [(5, .int (0 : Int32)), (0, .ref b), (1, .ref ax), (2, .ref (aM 0)), (3, .ref ao), (4, .int x4)]) hx hb d_Law_law_405 hl (by decide) rfl (fun ls hl => ?_)
          refine lv_aload_n hx hb d_Law_law_407 rfl (lv_at hl 3 rfl) ?_
          refine lv_aload_n hx hb d_Law_law_408 rfl (lv_at hl 1 rfl) ?_
          refine lv_iload hx hb d_Law_law_409 (lv_at hl 5 rfl) ?_
          refine lv_iconst (v := 1) hx hb d_Law_law_411 (by decide) ?_
          refine x_add hx hb d_Law_law_412 h4 kc_1 (by omega) (fun z_460 tz_460 => ?_)
          refine w_sld hx hb hX hbl hbA hS (i + 1) tz_460 (by omega) (by omega) d_Law_law_413 ?_
          refine lv_aload_n hx hb d_Law_law_414 rfl (lv_at hl 1 rfl) ?_
          refine lv_iload hx hb d_Law_law_415 (lv_at hl 5 rfl) ?_
          refine lv_iconst (v := 2) hx hb d_Law_law_417 (by decide) ?_
          refine x_add hx hb d_Law_law_418 h4 kc_2 (by omega) (fun z_461 tz_461 => ?_)
          refine w_sld hx hb hX hbl hbA hS (i + 2) tz_461 (by omega) (by omega) d_Law_law_419 ?_
          refine lv_aload_n hx hb d_Law_law_420 rfl (lv_at hl 1 rfl) ?_
          refine lv_iload hx hb d_Law_law_421 (lv_at hl 5 rfl) ?_
          refine lv_iconst (v := 3) hx hb d_Law_law_423 (by decide) ?_
          refine x_add hx hb d_Law_law_424 h4 kc_3 (by omega) (fun z_462 tz_462 => ?_)
          refine w_sld hx hb hX hbl hbA hS (i + 3) tz_462 (by omega) (by omega) d_Law_law_425 ?_
          refine x_V (As := [.int (xs (i + 1)), .int (xs (i + 2)), .int (xs (i + 3))]) (rest := []) hx hb hml hown hK (k_Mod_set l D cA aM hiM I F nn mm en mk ch hch hWF (xs (i + 1)) (xs (i + 2)) (xs (i + 3))) t_891 t_4 t_888 t_889 t_890 yk_Mod_set ⟨Nat.le_of_ble_eq_true rfl, Nat.le_of_ble_eq_true rfl⟩ (m_rec hK hM) hM rfl hl.1 rfl (Nat.le_of_ble_eq_true rfl) d_Law_law_426 hcs1 hS (fun q ⟨k9, h9, e9⟩ => by rw [e9]; exact hMs k9 h9) (fun r H2 locs hq hkk hS => ?_)
          have hP : va_P D classes (wl (List.range (56 + mm)) adr cn2) H2 := kpW hP hkk (fun n9 h9 _ ⟨k9, hk9, e9⟩ => hdj n9 h9 k9 hk9 e9)
          have hO : va_at D classes (ao, OUT cA g2) H2 := kpO hO hkk (fun _ ⟨k9, hk9, e9⟩ => hmo k9 hk9 e9.symm)
          obtain ⟨z2, rfl, hz2, I2, F2, c2, h02, h20, hSm, hM⟩ := hq
          rw [if_pos hcd] at hSm
          have hz2 := hz2 hcd
          have hth : (I2 0).toInt = 0 := by rw [h02, hcd]; rfl
          refine W.eq (g2 := F0 m 429 ls [.int z2]) rfl ?_
          refine lv_istore (lv' := [(6, .int z2), (5, .int (0 : Int32)), (0, .ref b), (1, .ref ax), (2, .ref (aM 0)), (3, .ref ao), (4, .int x4)]) hx hb d_Law_law_429 hl (by decide) rfl (fun ls hl => ?_)
          refine lv_aload_n hx hb d_Law_law_431 rfl (lv_at hl 4 rfl) ?_
          refine x_V (As := []) (rest := []) hx hb hml hown hK (k_Mod_thrown l D cA aM hiM I2 F2) t_850 t_4 t_847 t_848 t_849 yk_Mod_thrown ⟨Nat.le_of_ble_eq_true rfl, Nat.le_of_ble_eq_true rfl⟩ (m_rec hK hM) hM rfl hl.1 rfl (Nat.le_of_ble_eq_true rfl) d_Law_law_432 hcs1 hS (fun q ⟨k9, h9, e9⟩ => by rw [e9]; exact hMs k9 h9) (fun r H3 locs hq hkk hS => ?_)
          have hP : va_P D classes (wl (List.range (56 + mm)) adr cn2) H3 := kpW hP hkk (fun n9 h9 _ ⟨k9, hk9, e9⟩ => hdj n9 h9 k9 hk9 e9)
          have hO : va_at D classes (ao, OUT cA g2) H3 := kpO hO hkk (fun _ ⟨k9, hk9, e9⟩ => hmo k9 hk9 e9.symm)
          obtain ⟨rfl, hM⟩ := hq
          refine W.eq (g2 := F0 m 435 ls [.int (I2 0)]) rfl ?_
          refine lv_iload hx hb d_Law_law_435 (lv_at hl 1 rfl) ?_
          refine b_icmp_eq (tgt := 442) hx hb d_Law_law_437 (by decide) rfl kc_0 (fun c_463 => ?_) (fun c_463 => ?_)
          · refine lv_iload hx hb d_Law_law_442 (lv_at hl 1 rfl) ?_
            refine b_if_ne (tgt := 459) hx hb d_Law_law_444 (by decide) kc_0 (fun c_464 => ?_) (fun c_464 => ?_)
            · exact absurd c_464 (by decide)
            · refine lv_aload_n hx hb d_Law_law_447 rfl (lv_at hl 5 rfl) ?_
              refine lv_iconst (v := 0) hx hb d_Law_law_448 (by decide) ?_
              refine w_oal hx hb hK hO d_Law_law_449 ?_
              refine lv_iload hx hb d_Law_law_450 (lv_at hl 0 rfl) ?_
              refine lv_i2l hx hb d_Law_law_452 rfl ?_
              have hzz : z1 = z2 := i32_eq (hz1.trans hz2.symm)
              refine W.lcmp hx hb d_Law_law_453 ?_
              refine W.eq (g2 := F0 m 454 ls [.int 0]) (by rw [hg2, hzz, lg_self]; rfl) ?_
              refine b_if_eq (tgt := 459) hx hb d_Law_law_454 (by decide) kc_0 (fun c_465 => ?_) (fun c_465 => ?_)
              · refine lv_goto (tgt := 930) hx hb d_Law_law_459 (by decide) ?_
                exact hB _ _ _ (li_mk (hWF.set (bs_0 hcd).2 (bs_0 hcd).1) hSm h20 hM had hi hC2 hP hO hsz hao hdj) hS (lv_sub hl [2, 3, 4, 5, 6] rfl)
              · exact absurd c_465 (by decide)
          · exact absurd hth c_463
        · have hcdn : ¬ cd.toInt = 0 := by rw [hcd2]; exact hcd
          refine W.eq (g2 := F0 m 405 ls [.int cd]) rfl ?_
          refine lv_istore (lv' := [(5, .int cd), (0, .ref b), (1, .ref ax), (2, .ref (aM 0)), (3, .ref ao), (4, .int x4)]) hx hb d_Law_law_405 hl (by decide) rfl (fun ls hl => ?_)
          refine lv_aload_n hx hb d_Law_law_407 rfl (lv_at hl 3 rfl) ?_
          refine lv_aload_n hx hb d_Law_law_408 rfl (lv_at hl 1 rfl) ?_
          refine lv_iload hx hb d_Law_law_409 (lv_at hl 5 rfl) ?_
          refine lv_iconst (v := 1) hx hb d_Law_law_411 (by decide) ?_
          refine x_add hx hb d_Law_law_412 h4 kc_1 (by omega) (fun z_466 tz_466 => ?_)
          refine w_sld hx hb hX hbl hbA hS (i + 1) tz_466 (by omega) (by omega) d_Law_law_413 ?_
          refine lv_aload_n hx hb d_Law_law_414 rfl (lv_at hl 1 rfl) ?_
          refine lv_iload hx hb d_Law_law_415 (lv_at hl 5 rfl) ?_
          refine lv_iconst (v := 2) hx hb d_Law_law_417 (by decide) ?_
          refine x_add hx hb d_Law_law_418 h4 kc_2 (by omega) (fun z_467 tz_467 => ?_)
          refine w_sld hx hb hX hbl hbA hS (i + 2) tz_467 (by omega) (by omega) d_Law_law_419 ?_
          refine lv_aload_n hx hb d_Law_law_420 rfl (lv_at hl 1 rfl) ?_
          refine lv_iload hx hb d_Law_law_421 (lv_at hl 5 rfl) ?_
          refine lv_iconst (v := 3) hx hb d_Law_law_423 (by decide) ?_
          refine x_add hx hb d_Law_law_424 h4 kc_3 (by omega) (fun z_468 tz_468 => ?_)
          refine w_sld hx hb hX hbl hbA hS (i + 3) tz_468 (by omega) (by omega) d_Law_law_425 ?_
          refine x_V (As := [.int (xs (i + 1)), .int (xs (i + 2)), .int (xs (i + 3))]) (rest := []) hx hb hml hown hK (k_Mod_set l D cA aM hiM I F nn mm en mk ch hch hWF (xs (i + 1)) (xs (i + 2)) (xs (i + 3))) t_891 t_4 t_888 t_889 t_890 yk_Mod_set ⟨Nat.le_of_ble_eq_true rfl, Nat.le_of_ble_eq_true rfl⟩ (m_rec hK hM) hM rfl hl.1 rfl (Nat.le_of_ble_eq_true rfl) d_Law_law_426 hcs1 hS (fun q ⟨k9, h9, e9⟩ => by rw [e9]; exact hMs k9 h9) (fun r H2 locs hq hkk hS => ?_)
          have hP : va_P D classes (wl (List.range (56 + mm)) adr cn2) H2 := kpW hP hkk (fun n9 h9 _ ⟨k9, hk9, e9⟩ => hdj n9 h9 k9 hk9 e9)
          have hO : va_at D classes (ao, OUT cA g) H2 := kpO hO hkk (fun _ ⟨k9, hk9, e9⟩ => hmo k9 hk9 e9.symm)
          obtain ⟨z2, rfl, hz2, I2, F2, c2, h02, h20, hSm, hM⟩ := hq
          rw [if_neg hcd] at hSm
          have hth : (I2 0).toInt = cd.toInt := by rw [h02, ← hcd2, Int32.ofInt_toInt]
          refine W.eq (g2 := F0 m 429 ls [.int z2]) rfl ?_
          refine lv_istore (lv' := [(6, .int z2), (5, .int cd), (0, .ref b), (1, .ref ax), (2, .ref (aM 0)), (3, .ref ao), (4, .int x4)]) hx hb d_Law_law_429 hl (by decide) rfl (fun ls hl => ?_)
          refine lv_aload_n hx hb d_Law_law_431 rfl (lv_at hl 4 rfl) ?_
          refine x_V (As := []) (rest := []) hx hb hml hown hK (k_Mod_thrown l D cA aM hiM I2 F2) t_850 t_4 t_847 t_848 t_849 yk_Mod_thrown ⟨Nat.le_of_ble_eq_true rfl, Nat.le_of_ble_eq_true rfl⟩ (m_rec hK hM) hM rfl hl.1 rfl (Nat.le_of_ble_eq_true rfl) d_Law_law_432 hcs1 hS (fun q ⟨k9, h9, e9⟩ => by rw [e9]; exact hMs k9 h9) (fun r H3 locs hq hkk hS => ?_)
          have hP : va_P D classes (wl (List.range (56 + mm)) adr cn2) H3 := kpW hP hkk (fun n9 h9 _ ⟨k9, hk9, e9⟩ => hdj n9 h9 k9 hk9 e9)
          have hO : va_at D classes (ao, OUT cA g) H3 := kpO hO hkk (fun _ ⟨k9, hk9, e9⟩ => hmo k9 hk9 e9.symm)
          obtain ⟨rfl, hM⟩ := hq
          refine W.eq (g2 := F0 m 435 ls [.int (I2 0)]) rfl ?_
          refine lv_iload hx hb d_Law_law_435 (lv_at hl 1 rfl) ?_
          refine b_icmp_eq (tgt := 442) hx hb d_Law_law_437 (by decide) rfl rfl (fun c_469 => ?_) (fun c_469 => ?_)
          · refine lv_iload hx hb d_Law_law_442 (lv_at hl 1 rfl) ?_
            refine b_if_ne (tgt := 459) hx hb d_Law_law_444 (by decide) rfl (fun c_470 => ?_) (fun c_470 => ?_)
            · refine lv_goto (tgt := 930) hx hb d_Law_law_459 (by decide) ?_
              exact hB _ _ _ (li_mk hWF hSm h20 hM had hi hC2 hP hO hsz hao hdj) hS (lv_sub hl [2, 3, 4, 5, 6] rfl)
            · exact absurd c_470 hcdn
          · exact absurd hth c_469
      by_cases c_471 : ((xs i) &&& (31 : Int32)).toInt = 5
      · have e_471 : ((xs i) &&& (31 : Int32)).toInt = 5 := (rfl).trans c_471
        refine lv_tableIn (off := 423) (tgt := 462) hx hb d_Law_law_39 (by rw [e_471]; decide) (by rw [e_471]; decide) (by rw [e_471]; rfl) (by decide) ?_
        refine lv_aload_n hx hb d_Law_law_462 rfl (lv_at hl 1 rfl) ?_
        refine lv_aload_n hx hb d_Law_law_463 rfl (lv_at hl 0 rfl) ?_
        refine lv_iload hx hb d_Law_law_464 (lv_at hl 4 rfl) ?_
        refine lv_iconst (v := 1) hx hb d_Law_law_466 (by decide) ?_
        refine x_add hx hb d_Law_law_467 h4 kc_1 (by omega) (fun z_472 tz_472 => ?_)
        refine w_sld hx hb hX hbl hbA hS (i + 1) tz_472 (by omega) (by omega) d_Law_law_468 ?_
        refine lv_aload_n hx hb d_Law_law_469 rfl (lv_at hl 0 rfl) ?_
        refine lv_iload hx hb d_Law_law_470 (lv_at hl 4 rfl) ?_
        refine lv_iconst (v := 2) hx hb d_Law_law_472 (by decide) ?_
        refine x_add hx hb d_Law_law_473 h4 kc_2 (by omega) (fun z_473 tz_473 => ?_)
        refine w_sld hx hb hX hbl hbA hS (i + 2) tz_473 (by omega) (by omega) d_Law_law_474 ?_
        have K_674 : ∀ (b_674_0 : Bool), (b_674_0 = true ↔ ¬ (xs (i + 2)).toInt = 0) → W p l e room_1 s m args below meth c H locs cells slots Q (F0 m 483 ls [.int (bi b_674_0), .int (xs (i + 1)), .ref ax]) := by
          intro b_674_0 hb_674_0
          refine x_V (As := [.int (xs (i + 1)), .int (bi b_674_0)]) (rest := []) hx hb hml hown hK (k_Sht_force l D cA adr (List.range (56 + mm)) hi cn F I nn mm en mk x dn hCP hNm hWF (xs (i + 1)) b_674_0) t_157 t_1 t_154 t_155 t_156 yk_Sht_force ⟨Nat.le_of_ble_eq_true rfl, Nat.le_of_ble_eq_true rfl⟩ (w_rec hK hP (hNm 0 (by omega)) hCP.1.1 rfl) hP rfl hl.1 (by rw [had]; rfl) (Nat.le_of_ble_eq_true rfl) d_Law_law_483 hcs hS (fun q ⟨n9, h9, e9⟩ => by rw [e9]; exact hsz n9 h9) (fun r H1 locs hq hkk hS => ?_)
          have hM : MP D cA aM I F H1 := kpW hM hkk (fun k9 hk9 _ ⟨n9, h9, e9⟩ => hdj n9 h9 k9 hk9 e9.symm)
          have hO : va_at D classes (ao, OUT cA g) H1 := kpO hO hkk (fun _ ⟨n9, h9, e9⟩ => hao n9 h9 e9.symm)
          obtain ⟨rfl, cn2, x2, dn2, hC2, hP⟩ := hq
          refine W.eq (g2 := F0 m 486 ls [.int (bi (q_force en mk (xs (i + 1)).toInt b_674_0))]) rfl ?_
          refine lv_aload_n hx hb d_Law_law_486 rfl (lv_at hl 2 rfl) ?_
          refine lv_aload_n hx hb d_Law_law_487 rfl (lv_at hl 0 rfl) ?_
          refine lv_iload hx hb d_Law_law_488 (lv_at hl 4 rfl) ?_
          refine lv_iconst (v := 1) hx hb d_Law_law_490 (by decide) ?_
          refine x_add hx hb d_Law_law_491 h4 kc_1 (by omega) (fun z_675 tz_675 => ?_)
          refine w_sld hx hb hX hbl hbA hS (i + 1) tz_675 (by omega) (by omega) d_Law_law_492 ?_
          refine lv_aload_n hx hb d_Law_law_493 rfl (lv_at hl 0 rfl) ?_
          refine lv_iload hx hb d_Law_law_494 (lv_at hl 4 rfl) ?_
          refine lv_iconst (v := 2) hx hb d_Law_law_496 (by decide) ?_
          refine x_add hx hb d_Law_law_497 h4 kc_2 (by omega) (fun z_676 tz_676 => ?_)
          refine w_sld hx hb hX hbl hbA hS (i + 2) tz_676 (by omega) (by omega) d_Law_law_498 ?_
          have K_877 : ∀ (b_877_0 : Bool), (b_877_0 = true ↔ ¬ (xs (i + 2)).toInt = 0) → W p l e room_1 s m args below meth c H locs cells slots Q (F0 m 507 ls [.int (bi b_877_0), .int (xs (i + 1)), .ref (aM 0), .int (bi (q_force en mk (xs (i + 1)).toInt b_674_0))]) := by
            intro b_877_0 hb_877_0
            have hbb : b_877_0 = b_674_0 := bb_of (hb_674_0.trans hb_877_0.symm)
            rw [hbb]
            refine x_V (As := [.int (xs (i + 1)), .int (bi b_674_0)]) (rest := [.int (bi (q_force en mk (xs (i + 1)).toInt b_674_0))]) hx hb hml hown hK (k_Mod_force l D cA aM hiM I F nn mm en mk ch hch hWF (xs (i + 1)) b_674_0) t_895 t_4 t_892 t_893 t_894 yk_Mod_force ⟨Nat.le_of_ble_eq_true rfl, Nat.le_of_ble_eq_true rfl⟩ (m_rec hK hM) hM rfl hl.1 rfl (Nat.le_of_ble_eq_true rfl) d_Law_law_507 hcs hS (fun q ⟨k9, h9, e9⟩ => by rw [e9]; exact hMs k9 h9) (fun r H2 locs hq hkk hS => ?_)
            have hP : va_P D classes (wl (List.range (56 + mm)) adr cn2) H2 := kpW hP hkk (fun n9 h9 _ ⟨k9, hk9, e9⟩ => hdj n9 h9 k9 hk9 e9)
            have hO : va_at D classes (ao, OUT cA g) H2 := kpO hO hkk (fun _ ⟨k9, hk9, e9⟩ => hmo k9 hk9 e9.symm)
            obtain ⟨rfl, I2, F2, c2, h02, h20, hSm, hM⟩ := hq
            refine W.eq (g2 := F0 m 510 ls [.int (bi (q_force en mk (xs (i + 1)).toInt b_674_0)), .int (bi (q_force en mk (xs (i + 1)).toInt b_674_0))]) rfl ?_
            refine bb_icmp_eq (tgt := 930) hx hb d_Law_law_510 (by decide) (fun c_878 => ?_) (fun c_878 => ?_)
            · exact W_up (Nat.le_succ _) (Nat.le_add_right _ _) (hB _ _ _ (li_mk (hWF.force).choose_spec hSm h20 hM had hi hC2 hP hO hsz hao hdj) hS (lv_sub hl [0, 1, 2, 3, 4] rfl))
            · exact absurd rfl c_878
          refine b_if_eq (tgt := 506) hx hb d_Law_law_499 (by decide) rfl (fun c_879 => ?_) (fun c_879 => ?_)
          · refine lv_iconst (v := 0) hx hb d_Law_law_506 (by decide) ?_
            exact K_877 false ⟨fun h => absurd h (by decide), fun h => absurd h (by omega)⟩
          · refine lv_iconst (v := 1) hx hb d_Law_law_502 (by decide) ?_
            refine lv_goto (tgt := 507) hx hb d_Law_law_503 (by decide) ?_
            exact K_877 true ⟨fun _ => by omega, fun _ => rfl⟩
        refine b_if_eq (tgt := 482) hx hb d_Law_law_475 (by decide) rfl (fun c_880 => ?_) (fun c_880 => ?_)
        · refine lv_iconst (v := 0) hx hb d_Law_law_482 (by decide) ?_
          exact K_674 false ⟨fun h => absurd h (by decide), fun h => absurd h (by omega)⟩
        · refine lv_iconst (v := 1) hx hb d_Law_law_478 (by decide) ?_
          refine lv_goto (tgt := 483) hx hb d_Law_law_479 (by decide) ?_
          exact K_674 true ⟨fun _ => by omega, fun _ => rfl⟩
      by_cases c_881 : ((xs i) &&& (31 : Int32)).toInt = 6
      · have e_881 : ((xs i) &&& (31 : Int32)).toInt = 6 := (rfl).trans c_881
        refine lv_tableIn (off := 476) (tgt := 515) hx hb d_Law_law_39 (by rw [e_881]; decide) (by rw [e_881]; decide) (by rw [e_881]; rfl) (by decide) ?_
        refine lv_aload_n hx hb d_Law_law_515 rfl (lv_at hl 1 rfl) ?_
        refine x_V (As := []) (rest := []) hx hb hml hown hK (k_Sht_narrow l D cA adr (List.range (56 + mm)) hi cn F I nn mm en mk x dn hCP hNm hWF ) t_161 t_1 t_158 t_159 t_160 yk_Sht_narrow ⟨Nat.le_of_ble_eq_true rfl, Nat.le_of_ble_eq_true rfl⟩ (w_rec hK hP (hNm 0 (by omega)) hCP.1.1 rfl) hP rfl hl.1 (by rw [had]; rfl) (Nat.le_of_ble_eq_true rfl) d_Law_law_516 hcs hS (fun q ⟨n9, h9, e9⟩ => by rw [e9]; exact hsz n9 h9) (fun r H1 locs hq hkk hS => ?_)
        have hM : MP D cA aM I F H1 := kpW hM hkk (fun k9 hk9 _ ⟨n9, h9, e9⟩ => hdj n9 h9 k9 hk9 e9.symm)
        have hO : va_at D classes (ao, OUT cA g) H1 := kpO hO hkk (fun _ ⟨n9, h9, e9⟩ => hao n9 h9 e9.symm)
        obtain ⟨rfl, cn2, x2, dn2, hC2, hP⟩ := hq
        refine W.eq (g2 := F0 m 519 ls [.int (bi (nw F nn mm en mk).isSome)]) rfl ?_
        refine lv_aload_n hx hb d_Law_law_519 rfl (lv_at hl 2 rfl) ?_
        refine x_V (As := []) (rest := [.int (bi (nw F nn mm en mk).isSome)]) hx hb hml hown hK (k_Mod_narrow l D cA aM hiM I F nn mm en mk ch hch hWF ) t_902 t_4 t_899 t_900 t_901 yk_Mod_narrow ⟨Nat.le_of_ble_eq_true rfl, Nat.le_of_ble_eq_true rfl⟩ (m_rec hK hM) hM rfl hl.1 rfl (Nat.le_of_ble_eq_true rfl) d_Law_law_520 hcs hS (fun q ⟨k9, h9, e9⟩ => by rw [e9]; exact hMs k9 h9) (fun r H2 locs hq hkk hS => ?_)
        have hP : va_P D classes (wl (List.range (56 + mm)) adr cn2) H2 := kpW hP hkk (fun n9 h9 _ ⟨k9, hk9, e9⟩ => hdj n9 h9 k9 hk9 e9)
        have hO : va_at D classes (ao, OUT cA g) H2 := kpO hO hkk (fun _ ⟨k9, hk9, e9⟩ => hmo k9 hk9 e9.symm)
        obtain ⟨rfl, I2, F2, c2, h02, h20, hSm, hM⟩ := hq
        refine W.eq (g2 := F0 m 523 ls [.int (bi (nw F nn mm en mk).isSome), .int (bi (nw F nn mm en mk).isSome)]) rfl ?_
        refine bb_icmp_eq (tgt := 930) hx hb d_Law_law_523 (by decide) (fun c_882 => ?_) (fun c_882 => ?_)
        · exact W_up (Nat.le_succ _) (Nat.le_add_right _ _) (hB _ _ _ (li_mk hWF.nar hSm h20 hM had hi hC2 hP hO hsz hao hdj) hS (lv_sub hl [0, 1, 2, 3, 4] rfl))
        · exact absurd rfl c_882
      by_cases c_883 : ((xs i) &&& (31 : Int32)).toInt = 7
      · have e_883 : ((xs i) &&& (31 : Int32)).toInt = 7 := (rfl).trans c_883
        refine lv_tableIn (off := 489) (tgt := 528) hx hb d_Law_law_39 (by rw [e_883]; decide) (by rw [e_883]; decide) (by rw [e_883]; rfl) (by decide) ?_
        refine lv_aload_n hx hb d_Law_law_528 rfl (lv_at hl 1 rfl) ?_
        refine lv_aload_n hx hb d_Law_law_529 rfl (lv_at hl 0 rfl) ?_
        refine lv_iload hx hb d_Law_law_530 (lv_at hl 4 rfl) ?_
        refine lv_iconst (v := 1) hx hb d_Law_law_532 (by decide) ?_
        refine x_add hx hb d_Law_law_533 h4 kc_1 (by omega) (fun z_884 tz_884 => ?_)
        refine w_sld hx hb hX hbl hbA hS (i + 1) tz_884 (by omega) (by omega) d_Law_law_534 ?_
        refine x_V (As := [.int (xs (i + 1))]) (rest := []) hx hb hml hown hK (k_Sht_low l D cA adr (List.range (56 + mm)) hi cn F I nn mm en mk x dn hCP hNm hWF (xs (i + 1))) t_302 t_1 t_299 t_300 t_301 yk_Sht_low ⟨Nat.le_of_ble_eq_true rfl, Nat.le_of_ble_eq_true rfl⟩ (w_rec hK hP (hNm 0 (by omega)) hCP.1.1 rfl) hP rfl hl.1 (by rw [had]; rfl) (Nat.le_of_ble_eq_true rfl) d_Law_law_535 hcs hS (fun q ⟨n9, h9, e9⟩ => by rw [e9]; exact hsz n9 h9) (fun r H1 locs hq hkk hS => ?_)
        have hM : MP D cA aM I F H1 := kpW hM hkk (fun k9 hk9 _ ⟨n9, h9, e9⟩ => hdj n9 h9 k9 hk9 e9.symm)
        have hO : va_at D classes (ao, OUT cA g) H1 := kpO hO hkk (fun _ ⟨n9, h9, e9⟩ => hao n9 h9 e9.symm)
        obtain ⟨z1, rfl, hz1, cn2, x2, dn2, hC2, hP⟩ := hq
        refine W.eq (g2 := F0 m 538 ls [.int z1]) rfl ?_
        refine lv_aload_n hx hb d_Law_law_538 rfl (lv_at hl 2 rfl) ?_
        refine lv_aload_n hx hb d_Law_law_539 rfl (lv_at hl 0 rfl) ?_
        refine lv_iload hx hb d_Law_law_540 (lv_at hl 4 rfl) ?_
        refine lv_iconst (v := 1) hx hb d_Law_law_542 (by decide) ?_
        refine x_add hx hb d_Law_law_543 h4 kc_1 (by omega) (fun z_885 tz_885 => ?_)
        refine w_sld hx hb hX hbl hbA hS (i + 1) tz_885 (by omega) (by omega) d_Law_law_544 ?_
        refine x_V (As := [.int (xs (i + 1))]) (rest := [.int z1]) hx hb hml hown hK (k_Mod_low l D cA aM hiM I F nn mm en mk ch hch hWF (xs (i + 1))) t_989 t_4 t_986 t_987 t_988 yk_Mod_low ⟨Nat.le_of_ble_eq_true rfl, Nat.le_of_ble_eq_true rfl⟩ (m_rec hK hM) hM rfl hl.1 rfl (Nat.le_of_ble_eq_true rfl) d_Law_law_545 hcs hS (fun q ⟨k9, h9, e9⟩ => by rw [e9]; exact hMs k9 h9) (fun r H2 locs hq hkk hS => ?_)
        have hP : va_P D classes (wl (List.range (56 + mm)) adr cn2) H2 := kpW hP hkk (fun n9 h9 _ ⟨k9, hk9, e9⟩ => hdj n9 h9 k9 hk9 e9)
        have hO : va_at D classes (ao, OUT cA g) H2 := kpO hO hkk (fun _ ⟨k9, hk9, e9⟩ => hmo k9 hk9 e9.symm)
        obtain ⟨z2, rfl, hz2, I2, F2, c2, h02, h20, hSm, hM⟩ := hq
        refine W.eq (g2 := F0 m 548 ls [.int z2, .int z1]) rfl ?_
        refine b_icmp_eq (tgt := 930) hx hb d_Law_law_548 (by decide) rfl rfl (fun c_886 => ?_) (fun c_886 => ?_)
        · exact W_up (Nat.le_succ _) (Nat.le_add_right _ _) (hB _ _ _ (li_mk hWF hSm h20 hM had hi hC2 hP hO hsz hao hdj) hS (lv_sub hl [0, 1, 2, 3, 4] rfl))
        · exact absurd (hz1.trans hz2.symm) c_886
      by_cases c_887 : ((xs i) &&& (31 : Int32)).toInt = 8
      · have e_887 : ((xs i) &&& (31 : Int32)).toInt = 8 := (rfl).trans c_887
        refine lv_tableIn (off := 514) (tgt := 553) hx hb d_Law_law_39 (by rw [e_887]; decide) (by rw [e_887]; decide) (by rw [e_887]; rfl) (by decide) ?_
        refine lv_aload_n hx hb d_Law_law_553 rfl (lv_at hl 1 rfl) ?_
        refine lv_aload_n hx hb d_Law_law_554 rfl (lv_at hl 0 rfl) ?_
        refine lv_iload hx hb d_Law_law_555 (lv_at hl 4 rfl) ?_
        refine lv_iconst (v := 1) hx hb d_Law_law_557 (by decide) ?_
        refine x_add hx hb d_Law_law_558 h4 kc_1 (by omega) (fun z_888 tz_888 => ?_)
        refine w_sld hx hb hX hbl hbA hS (i + 1) tz_888 (by omega) (by omega) d_Law_law_559 ?_
        refine x_V (As := [.int (xs (i + 1))]) (rest := []) hx hb hml hown hK (k_Sht_high l D cA adr (List.range (56 + mm)) hi cn F I nn mm en mk x dn hCP hNm hWF (xs (i + 1))) t_306 t_1 t_303 t_304 t_305 yk_Sht_high ⟨Nat.le_of_ble_eq_true rfl, Nat.le_of_ble_eq_true rfl⟩ (w_rec hK hP (hNm 0 (by omega)) hCP.1.1 rfl) hP rfl hl.1 (by rw [had]; rfl) (Nat.le_of_ble_eq_true rfl) d_Law_law_560 hcs hS (fun q ⟨n9, h9, e9⟩ => by rw [e9]; exact hsz n9 h9) (fun r H1 locs hq hkk hS => ?_)
        have hM : MP D cA aM I F H1 := kpW hM hkk (fun k9 hk9 _ ⟨n9, h9, e9⟩ => hdj n9 h9 k9 hk9 e9.symm)
        have hO : va_at D classes (ao, OUT cA g) H1 := kpO hO hkk (fun _ ⟨n9, h9, e9⟩ => hao n9 h9 e9.symm)
        obtain ⟨z1, rfl, hz1, cn2, x2, dn2, hC2, hP⟩ := hq
        refine W.eq (g2 := F0 m 563 ls [.int z1]) rfl ?_
        refine lv_aload_n hx hb d_Law_law_563 rfl (lv_at hl 2 rfl) ?_
        refine lv_aload_n hx hb d_Law_law_564 rfl (lv_at hl 0 rfl) ?_
        refine lv_iload hx hb d_Law_law_565 (lv_at hl 4 rfl) ?_
        refine lv_iconst (v := 1) hx hb d_Law_law_567 (by decide) ?_
        refine x_add hx hb d_Law_law_568 h4 kc_1 (by omega) (fun z_889 tz_889 => ?_)
        refine w_sld hx hb hX hbl hbA hS (i + 1) tz_889 (by omega) (by omega) d_Law_law_569 ?_
        refine x_V (As := [.int (xs (i + 1))]) (rest := [.int z1]) hx hb hml hown hK (k_Mod_high l D cA aM hiM I F nn mm en mk ch hch hWF (xs (i + 1))) t_993 t_4 t_990 t_991 t_992 yk_Mod_high ⟨Nat.le_of_ble_eq_true rfl, Nat.le_of_ble_eq_true rfl⟩ (m_rec hK hM) hM rfl hl.1 rfl (Nat.le_of_ble_eq_true rfl) d_Law_law_570 hcs hS (fun q ⟨k9, h9, e9⟩ => by rw [e9]; exact hMs k9 h9) (fun r H2 locs hq hkk hS => ?_)
        have hP : va_P D classes (wl (List.range (56 + mm)) adr cn2) H2 := kpW hP hkk (fun n9 h9 _ ⟨k9, hk9, e9⟩ => hdj n9 h9 k9 hk9 e9)
        have hO : va_at D classes (ao, OUT cA g) H2 := kpO hO hkk (fun _ ⟨k9, hk9, e9⟩ => hmo k9 hk9 e9.symm)
        obtain ⟨z2, rfl, hz2, I2, F2, c2, h02, h20, hSm, hM⟩ := hq
        refine W.eq (g2 := F0 m 573 ls [.int z2, .int z1]) rfl ?_
        refine b_icmp_eq (tgt := 930) hx hb d_Law_law_573 (by decide) rfl rfl (fun c_890 => ?_) (fun c_890 => ?_)
        · exact W_up (Nat.le_succ _) (Nat.le_add_right _ _) (hB _ _ _ (li_mk hWF hSm h20 hM had hi hC2 hP hO hsz hao hdj) hS (lv_sub hl [0, 1, 2, 3, 4] rfl))
        · exact absurd (hz1.trans hz2.symm) c_890
      by_cases c_891 : ((xs i) &&& (31 : Int32)).toInt = 9
      · have e_891 : ((xs i) &&& (31 : Int32)).toInt = 9 := (rfl).trans c_891
        refine lv_tableIn (off := 539) (tgt := 578) hx hb d_Law_law_39 (by rw [e_891]; decide) (by rw [e_891]; decide) (by rw [e_891]; rfl) (by decide) ?_
        refine lv_aload_n hx hb d_Law_law_578 rfl (lv_at hl 1 rfl) ?_
        refine x_V (As := []) (rest := []) hx hb hml hown hK (k_Sht_conflict l D cA adr (List.range (56 + mm)) hi cn F I nn mm en mk x dn hCP hNm hWF ) t_310 t_1 t_307 t_308 t_309 yk_Sht_conflict ⟨Nat.le_of_ble_eq_true rfl, Nat.le_of_ble_eq_true rfl⟩ (w_rec hK hP (hNm 0 (by omega)) hCP.1.1 rfl) hP rfl hl.1 (by rw [had]; rfl) (Nat.le_of_ble_eq_true rfl) d_Law_law_579 hcs hS (fun q ⟨n9, h9, e9⟩ => by rw [e9]; exact hsz n9 h9) (fun r H1 locs hq hkk hS => ?_)
        have hM : MP D cA aM I F H1 := kpW hM hkk (fun k9 hk9 _ ⟨n9, h9, e9⟩ => hdj n9 h9 k9 hk9 e9.symm)
        have hO : va_at D classes (ao, OUT cA g) H1 := kpO hO hkk (fun _ ⟨n9, h9, e9⟩ => hao n9 h9 e9.symm)
        obtain ⟨z1, rfl, hz1, cn2, x2, dn2, hC2, hP⟩ := hq
        refine W.eq (g2 := F0 m 582 ls [.int z1]) rfl ?_
        refine lv_aload_n hx hb d_Law_law_582 rfl (lv_at hl 2 rfl) ?_
        refine x_V (As := []) (rest := [.int z1]) hx hb hml hown hK (k_Mod_conflict l D cA aM hiM I F nn mm en mk ch hch hWF ) t_997 t_4 t_994 t_995 t_996 yk_Mod_conflict ⟨Nat.le_of_ble_eq_true rfl, Nat.le_of_ble_eq_true rfl⟩ (m_rec hK hM) hM rfl hl.1 rfl (Nat.le_of_ble_eq_true rfl) d_Law_law_583 hcs hS (fun q ⟨k9, h9, e9⟩ => by rw [e9]; exact hMs k9 h9) (fun r H2 locs hq hkk hS => ?_)
        have hP : va_P D classes (wl (List.range (56 + mm)) adr cn2) H2 := kpW hP hkk (fun n9 h9 _ ⟨k9, hk9, e9⟩ => hdj n9 h9 k9 hk9 e9)
        have hO : va_at D classes (ao, OUT cA g) H2 := kpO hO hkk (fun _ ⟨k9, hk9, e9⟩ => hmo k9 hk9 e9.symm)
        obtain ⟨z2, rfl, hz2, I2, F2, c2, h02, h20, hSm, hM⟩ := hq
        refine W.eq (g2 := F0 m 586 ls [.int z2, .int z1]) rfl ?_
        refine b_icmp_eq (tgt := 930) hx hb d_Law_law_586 (by decide) rfl rfl (fun c_892 => ?_) (fun c_892 => ?_)
        · exact W_up (Nat.le_succ _) (Nat.le_add_right _ _) (hB _ _ _ (li_mk hWF hSm h20 hM had hi hC2 hP hO hsz hao hdj) hS (lv_sub hl [0, 1, 2, 3, 4] rfl))
        · exact absurd (hz1.trans hz2.symm) c_892
      by_cases c_893 : ((xs i) &&& (31 : Int32)).toInt = 10
      · have e_893 : ((xs i) &&& (31 : Int32)).toInt = 10 := (rfl).trans c_893
        refine lv_tableIn (off := 552) (tgt := 591) hx hb d_Law_law_39 (by rw [e_893]; decide) (by rw [e_893]; decide) (by rw [e_893]; rfl) (by decide) ?_
        refine lv_aload_n hx hb d_Law_law_591 rfl (lv_at hl 1 rfl) ?_
        refine lv_aload_n hx hb d_Law_law_592 rfl (lv_at hl 0 rfl) ?_
        refine lv_iload hx hb d_Law_law_593 (lv_at hl 4 rfl) ?_
        refine lv_iconst (v := 1) hx hb d_Law_law_595 (by decide) ?_
        refine x_add hx hb d_Law_law_596 h4 kc_1 (by omega) (fun z_894 tz_894 => ?_)
        refine w_sld hx hb hX hbl hbA hS (i + 1) tz_894 (by omega) (by omega) d_Law_law_597 ?_
        refine lv_aload_n hx hb d_Law_law_598 rfl (lv_at hl 0 rfl) ?_
        refine lv_iload hx hb d_Law_law_599 (lv_at hl 4 rfl) ?_
        refine lv_iconst (v := 2) hx hb d_Law_law_601 (by decide) ?_
        refine x_add hx hb d_Law_law_602 h4 kc_2 (by omega) (fun z_895 tz_895 => ?_)
        refine w_sld hx hb hX hbl hbA hS (i + 2) tz_895 (by omega) (by omega) d_Law_law_603 ?_
        have K_1096 : ∀ (b_1096_0 : Bool), (b_1096_0 = true ↔ ¬ (xs (i + 2)).toInt = 0) → W p l e room_1 s m args below meth c H locs cells slots Q (F0 m 612 ls [.int (bi b_1096_0), .int (xs (i + 1)), .ref ax]) := by
          intro b_1096_0 hb_1096_0
          refine lv_aload_n hx hb d_Law_law_612 rfl (lv_at hl 3 rfl) ?_
          refine l_SH (As := [.ref (adr 0), .int (xs (i + 1)), .int (bi b_1096_0), .ref ao]) (rest := []) hx hb hml hown hK (k_Law_because l htr D cA H.size adr cn ao g F I nn mm en mk (List.range (56 + mm)) hi hNm hao x dn hCP hWF (xs (i + 1)) b_1096_0) t_680 t_0 t_678 t_679 yk_Law_because ⟨Nat.le_of_ble_eq_true rfl, Nat.le_of_ble_eq_true rfl⟩ (hThs H locs hS) hNC hP hO hS (fun q h9 => by rcases h9 with ⟨n9, h9, e9⟩ | e9 | e9; (rw [e9]; exact hsz n9 h9); (rw [e9]; exact haos); exact Nat.le_trans hS.1 e9) rfl hl.1 (by rw [had]; rfl) (Nat.le_of_ble_eq_true rfl) d_Law_law_613 hcs2 (fun r H1 locs hq hkk hzz hS => ?_)
          have hM : MP D cA aM I F H1 := kpW hM hkk (fun k9 hk9 hlt9 h9 => by rcases h9 with ⟨n9, h9, e9⟩ | e9 | e9; exact hdj n9 h9 k9 hk9 e9.symm; exact hmo k9 hk9 e9; omega)
          rcases hq with ⟨hcd, z1, g2, rfl, hz1, hg2, hO, cn2, x2, dn2, hC2, hP⟩ | ⟨hcd, cd, rfl, hcd2, hO, cn2, x2, dn2, hC2, hP⟩
          · refine W.eq (g2 := F0 m 616 ls [.int (0 : Int32)]) rfl ?_
            refine lv_istore (lv' := [(5, .int (0 : Int32)), (0, .ref b), (1, .ref ax), (2, .ref (aM 0)), (3, .ref ao), (4, .int x4)]) hx hb d_Law_law_616 hl (by decide) rfl (fun ls hl => ?_)
            refine lv_aload_n hx hb d_Law_law_618 rfl (lv_at hl 3 rfl) ?_
            refine lv_aload_n hx hb d_Law_law_619 rfl (lv_at hl 1 rfl) ?_
            refine lv_iload hx hb d_Law_law_620 (lv_at hl 5 rfl) ?_
            refine lv_iconst (v := 1) hx hb d_Law_law_622 (by decide) ?_
            refine x_add hx hb d_Law_law_623 h4 kc_1 (by omega) (fun z_1097 tz_1097 => ?_)
            refine w_sld hx hb hX hbl hbA hS (i + 1) tz_1097 (by omega) (by omega) d_Law_law_624 ?_
            refine lv_aload_n hx hb d_Law_law_625 rfl (lv_at hl 1 rfl) ?_
            refine lv_iload hx hb d_Law_law_626 (lv_at hl 5 rfl) ?_
            refine lv_iconst (v := 2) hx hb d_Law_law_628 (by decide) ?_
            refine x_add hx hb d_Law_law_629 h4 kc_2 (by omega) (fun z_1098 tz_1098 => ?_)
            refine w_sld hx hb hX hbl hbA hS (i + 2) tz_1098 (by omega) (by omega) d_Law_law_630 ?_
            have K_1299 : ∀ (b_1299_0 : Bool), (b_1299_0 = true ↔ ¬ (xs (i + 2)).toInt = 0) → W p l e room_1 s m args below meth c H locs (cells + 1) (slots + 10) Q (F0 m 639 ls [.int (bi b_1299_0), .int (xs (i + 1)), .ref (aM 0)]) := by
              intro b_1299_0 hb_1299_0
              have hbb : b_1299_0 = b_1096_0 := bb_of (hb_1096_0.trans hb_1299_0.symm)
              rw [hbb]
              refine x_V (As := [.int (xs (i + 1)), .int (bi b_1096_0)]) (rest := []) hx hb hml hown hK (k_Mod_because l D cA aM hiM I F nn mm en mk ch hch hWF (xs (i + 1)) b_1096_0) t_1001 t_4 t_998 t_999 t_1000 yk_Mod_because ⟨Nat.le_of_ble_eq_true rfl, Nat.le_of_ble_eq_true rfl⟩ (m_rec hK hM) hM rfl hl.1 rfl (Nat.le_of_ble_eq_true rfl) d_Law_law_639 hcs1 hS (fun q ⟨k9, h9, e9⟩ => by rw [e9]; exact hMs k9 h9) (fun r H2 locs hq hkk hS => ?_)
              have hP : va_P D classes (wl (List.range (56 + mm)) adr cn2) H2 := kpW hP hkk (fun n9 h9 _ ⟨k9, hk9, e9⟩ => hdj n9 h9 k9 hk9 e9)
              have hO : va_at D classes (ao, OUT cA g2) H2 := kpO hO hkk (fun _ ⟨k9, hk9, e9⟩ => hmo k9 hk9 e9.symm)
              obtain ⟨z2, rfl, hq2⟩ := hq
              refine W.eq (g2 := F0 m 642 ls [.int z2]) rfl ?_
              rcases hq2 with ⟨hno2, I2, F2, c2, h02, h20, hSm, hM⟩ | ⟨hok2, hz2, I2, F2, c2, h02, h20, hSm, hM⟩
              · exact absurd (if01 hcd) hno2
              · have hth : (I2 0).toInt = 0 := by rw [h02]; rfl
                refine lv_istore (lv' := [(6, .int z2), (5, .int (0 : Int32)), (0, .ref b), (1, .ref ax), (2, .ref (aM 0)), (3, .ref ao), (4, .int x4)]) hx hb d_Law_law_642 hl (by decide) rfl (fun ls hl => ?_)
                refine lv_aload_n hx hb d_Law_law_644 rfl (lv_at hl 4 rfl) ?_
                refine x_V (As := []) (rest := []) hx hb hml hown hK (k_Mod_thrown l D cA aM hiM I2 F2) t_850 t_4 t_847 t_848 t_849 yk_Mod_thrown ⟨Nat.le_of_ble_eq_true rfl, Nat.le_of_ble_eq_true rfl⟩ (m_rec hK hM) hM rfl hl.1 rfl (Nat.le_of_ble_eq_true rfl) d_Law_law_645 hcs1 hS (fun q ⟨k9, h9, e9⟩ => by rw [e9]; exact hMs k9 h9) (fun r H3 locs hq hkk hS => ?_)
                have hP : va_P D classes (wl (List.range (56 + mm)) adr cn2) H3 := kpW hP hkk (fun n9 h9 _ ⟨k9, hk9, e9⟩ => hdj n9 h9 k9 hk9 e9)
                have hO : va_at D classes (ao, OUT cA g2) H3 := kpO hO hkk (fun _ ⟨k9, hk9, e9⟩ => hmo k9 hk9 e9.symm)
                obtain ⟨rfl, hM⟩ := hq
                refine W.eq (g2 := F0 m 648 ls [.int (I2 0)]) rfl ?_
                refine lv_iload hx hb d_Law_law_648 (lv_at hl 1 rfl) ?_
                refine b_icmp_eq (tgt := 655) hx hb d_Law_law_650 (by decide) rfl kc_0 (fun c_1300 => ?_) (fun c_1300 => ?_)
                · refine lv_iload hx hb d_Law_law_655 (lv_at hl 1 rfl) ?_
                  refine b_if_ne (tgt := 672) hx hb d_Law_law_657 (by decide) kc_0 (fun c_1301 => ?_) (fun c_1301 => ?_)
                  · exact absurd c_1301 (by decide)
                  · refine lv_aload_n hx hb d_Law_law_660 rfl (lv_at hl 5 rfl) ?_
                    refine lv_iconst (v := 0) hx hb d_Law_law_661 (by decide) ?_
                    refine w_oal hx hb hK hO d_Law_law_662 ?_
                    refine lv_iload hx hb d_Law_law_663 (lv_at hl 0 rfl) ?_
                    refine lv_i2l hx hb d_Law_law_665 rfl ?_
                    have hzz : z1 = z2 := i32_eq (hz1.trans hz2.symm)
                    refine W.lcmp hx hb d_Law_law_666 ?_
                    refine W.eq (g2 := F0 m 667 ls [.int 0]) (by rw [hg2, hzz, lg_self]; rfl) ?_
                    refine b_if_eq (tgt := 672) hx hb d_Law_law_667 (by decide) kc_0 (fun c_1302 => ?_) (fun c_1302 => ?_)
                    · refine lv_goto (tgt := 930) hx hb d_Law_law_672 (by decide) ?_
                      exact hB _ _ _ (li_mk hWF hSm h20 hM had hi hC2 hP hO hsz hao hdj) hS (lv_sub hl [2, 3, 4, 5, 6] rfl)
                    · exact absurd c_1302 (by decide)
                · exact absurd hth c_1300
            refine b_if_eq (tgt := 638) hx hb d_Law_law_631 (by decide) rfl (fun c_1303 => ?_) (fun c_1303 => ?_)
            · refine lv_iconst (v := 0) hx hb d_Law_law_638 (by decide) ?_
              exact K_1299 false ⟨fun h => absurd h (by decide), fun h => absurd h (by omega)⟩
            · refine lv_iconst (v := 1) hx hb d_Law_law_634 (by decide) ?_
              refine lv_goto (tgt := 639) hx hb d_Law_law_635 (by decide) ?_
              exact K_1299 true ⟨fun _ => by omega, fun _ => rfl⟩
          · have hcdn : ¬ cd.toInt = 0 := by rw [hcd2]; exact hcd
            refine W.eq (g2 := F0 m 616 ls [.int cd]) rfl ?_
            refine lv_istore (lv' := [(5, .int cd), (0, .ref b), (1, .ref ax), (2, .ref (aM 0)), (3, .ref ao), (4, .int x4)]) hx hb d_Law_law_616 hl (by decide) rfl (fun ls hl => ?_)
            refine lv_aload_n hx hb d_Law_law_618 rfl (lv_at hl 3 rfl) ?_
            refine lv_aload_n hx hb d_Law_law_619 rfl (lv_at hl 1 rfl) ?_
            refine lv_iload hx hb d_Law_law_620 (lv_at hl 5 rfl) ?_
            refine lv_iconst (v := 1) hx hb d_Law_law_622 (by decide) ?_
            refine x_add hx hb d_Law_law_623 h4 kc_1 (by omega) (fun z_1304 tz_1304 => ?_)
            refine w_sld hx hb hX hbl hbA hS (i + 1) tz_1304 (by omega) (by omega) d_Law_law_624 ?_
            refine lv_aload_n hx hb d_Law_law_625 rfl (lv_at hl 1 rfl) ?_
            refine lv_iload hx hb d_Law_law_626 (lv_at hl 5 rfl) ?_
            refine lv_iconst (v := 2) hx hb d_Law_law_628 (by decide) ?_
            refine x_add hx hb d_Law_law_629 h4 kc_2 (by omega) (fun z_1305 tz_1305 => ?_)
            refine w_sld hx hb hX hbl hbA hS (i + 2) tz_1305 (by omega) (by omega) d_Law_law_630 ?_
            have K_1506 : ∀ (b_1506_0 : Bool), (b_1506_0 = true ↔ ¬ (xs (i + 2)).toInt = 0) → W p l e room_1 s m args below meth c H locs (cells + 1) (slots + 10) Q (F0 m 639 ls [.int (bi b_1506_0), .int (xs (i + 1)), .ref (aM 0)]) := by
              intro b_1506_0 hb_1506_0
              have hbb : b_1506_0 = b_1096_0 := bb_of (hb_1096_0.trans hb_1506_0.symm)
              rw [hbb]
              refine x_V (As := [.int (xs (i + 1)), .int (bi b_1096_0)]) (rest := []) hx hb hml hown hK (k_Mod_because l D cA aM hiM I F nn mm en mk ch hch hWF (xs (i + 1)) b_1096_0) t_1001 t_4 t_998 t_999 t_1000 yk_Mod_because ⟨Nat.le_of_ble_eq_true rfl, Nat.le_of_ble_eq_true rfl⟩ (m_rec hK hM) hM rfl hl.1 rfl (Nat.le_of_ble_eq_true rfl) d_Law_law_639 hcs1 hS (fun q ⟨k9, h9, e9⟩ => by rw [e9]; exact hMs k9 h9) (fun r H2 locs hq hkk hS => ?_)
              have hP : va_P D classes (wl (List.range (56 + mm)) adr cn2) H2 := kpW hP hkk (fun n9 h9 _ ⟨k9, hk9, e9⟩ => hdj n9 h9 k9 hk9 e9)
              have hO : va_at D classes (ao, OUT cA g) H2 := kpO hO hkk (fun _ ⟨k9, hk9, e9⟩ => hmo k9 hk9 e9.symm)
              obtain ⟨z2, rfl, hq2⟩ := hq
              refine W.eq (g2 := F0 m 642 ls [.int z2]) rfl ?_
              rcases hq2 with ⟨hno2, I2, F2, c2, h02, h20, hSm, hM⟩ | ⟨hok2, hz2, I2, F2, c2, h02, h20, hSm, hM⟩
              · have hth : (I2 0).toInt = cd.toInt := by rw [h02, hcd2, if_neg (if01n hcd)]; rfl
                refine lv_istore (lv' := [(6, .int z2), (5, .int cd), (0, .ref b), (1, .ref ax), (2, .ref (aM 0)), (3, .ref ao), (4, .int x4)]) hx hb d_Law_law_642 hl (by decide) rfl (fun ls hl => ?_)
                refine lv_aload_n hx hb d_Law_law_644 rfl (lv_at hl 4 rfl) ?_
                refine x_V (As := []) (rest := []) hx hb hml hown hK (k_Mod_thrown l D cA aM hiM I2 F2) t_850 t_4 t_847 t_848 t_849 yk_Mod_thrown ⟨Nat.le_of_ble_eq_true rfl, Nat.le_of_ble_eq_true rfl⟩ (m_rec hK hM) hM rfl hl.1 rfl (Nat.le_of_ble_eq_true rfl) d_Law_law_645 hcs1 hS (fun q ⟨k9, h9, e9⟩ => by rw [e9]; exact hMs k9 h9) (fun r H3 locs hq hkk hS => ?_)
                have hP : va_P D classes (wl (List.range (56 + mm)) adr cn2) H3 := kpW hP hkk (fun n9 h9 _ ⟨k9, hk9, e9⟩ => hdj n9 h9 k9 hk9 e9)
                have hO : va_at D classes (ao, OUT cA g) H3 := kpO hO hkk (fun _ ⟨k9, hk9, e9⟩ => hmo k9 hk9 e9.symm)
                obtain ⟨rfl, hM⟩ := hq
                refine W.eq (g2 := F0 m 648 ls [.int (I2 0)]) rfl ?_
                refine lv_iload hx hb d_Law_law_648 (lv_at hl 1 rfl) ?_
                refine b_icmp_eq (tgt := 655) hx hb d_Law_law_650 (by decide) rfl rfl (fun c_1507 => ?_) (fun c_1507 => ?_)
                · refine lv_iload hx hb d_Law_law_655 (lv_at hl 1 rfl) ?_
                  refine b_if_ne (tgt := 672) hx hb d_Law_law_657 (by decide) rfl (fun c_1508 => ?_) (fun c_1508 => ?_)
                  · refine lv_goto (tgt := 930) hx hb d_Law_law_672 (by decide) ?_
                    exact hB _ _ _ (li_mk hWF hSm h20 hM had hi hC2 hP hO hsz hao hdj) hS (lv_sub hl [2, 3, 4, 5, 6] rfl)
                  · exact absurd c_1508 hcdn
                · exact absurd hth c_1507
              · exact absurd hok2 (if01n hcd)
            refine b_if_eq (tgt := 638) hx hb d_Law_law_631 (by decide) rfl (fun c_1509 => ?_) (fun c_1509 => ?_)
            · refine lv_iconst (v := 0) hx hb d_Law_law_638 (by decide) ?_
              exact K_1506 false ⟨fun h => absurd h (by decide), fun h => absurd h (by omega)⟩
            · refine lv_iconst (v := 1) hx hb d_Law_law_634 (by decide) ?_
              refine lv_goto (tgt := 639) hx hb d_Law_law_635 (by decide) ?_
              exact K_1506 true ⟨fun _ => by omega, fun _ => rfl⟩
        refine b_if_eq (tgt := 611) hx hb d_Law_law_604 (by decide) rfl (fun c_1510 => ?_) (fun c_1510 => ?_)
        · refine lv_iconst (v := 0) hx hb d_Law_law_611 (by decide) ?_
          exact K_1096 false ⟨fun h => absurd h (by decide), fun h => absurd h (by omega)⟩
        · refine lv_iconst (v := 1) hx hb d_Law_law_607 (by decide) ?_
          refine lv_goto (tgt := 612) hx hb d_Law_law_608 (by decide) ?_
          exact K_1096 true ⟨fun _ => by omega, fun _ => rfl⟩
      by_cases c_1511 : ((xs i) &&& (31 : Int32)).toInt = 11
      · have e_1511 : ((xs i) &&& (31 : Int32)).toInt = 11 := (rfl).trans c_1511
        refine lv_tableIn (off := 636) (tgt := 675) hx hb d_Law_law_39 (by rw [e_1511]; decide) (by rw [e_1511]; decide) (by rw [e_1511]; rfl) (by decide) ?_
        refine lv_aload_n hx hb d_Law_law_675 rfl (lv_at hl 1 rfl) ?_
        refine lv_aload_n hx hb d_Law_law_676 rfl (lv_at hl 0 rfl) ?_
        refine lv_iload hx hb d_Law_law_677 (lv_at hl 4 rfl) ?_
        refine lv_iconst (v := 1) hx hb d_Law_law_679 (by decide) ?_
        refine x_add hx hb d_Law_law_680 h4 kc_1 (by omega) (fun z_1512 tz_1512 => ?_)
        refine w_sld hx hb hX hbl hbA hS (i + 1) tz_1512 (by omega) (by omega) d_Law_law_681 ?_
        refine lv_aload_n hx hb d_Law_law_682 rfl (lv_at hl 3 rfl) ?_
        refine l_SH (As := [.ref (adr 0), .int (xs (i + 1)), .ref ao]) (rest := []) hx hb hml hown hK (k_Law_solve l htr D cA H.size adr cn ao g F I nn mm en mk (List.range (56 + mm)) hi hNm hao x dn hCP hWF (xs (i + 1))) t_691 t_0 t_689 t_690 yk_Law_solve ⟨Nat.le_of_ble_eq_true rfl, Nat.le_of_ble_eq_true rfl⟩ (hThs H locs hS) hNC hP hO hS (fun q h9 => by rcases h9 with ⟨n9, h9, e9⟩ | e9 | e9; (rw [e9]; exact hsz n9 h9); (rw [e9]; exact haos); exact Nat.le_trans hS.1 e9) rfl hl.1 (by rw [had]; rfl) (Nat.le_of_ble_eq_true rfl) d_Law_law_683 hcs2 (fun r H1 locs hq hkk hzz hS => ?_)
        have hM : MP D cA aM I F H1 := kpW hM hkk (fun k9 hk9 hlt9 h9 => by rcases h9 with ⟨n9, h9, e9⟩ | e9 | e9; exact hdj n9 h9 k9 hk9 e9.symm; exact hmo k9 hk9 e9; omega)
        rcases hq with ⟨hcd, z1, g2, rfl, hz1, hg2, hO, cn2, x2, dn2, hC2, hP⟩ | ⟨hcd, cd, rfl, hcd2, hO, cn2, x2, dn2, hC2, hP⟩
        · refine W.eq (g2 := F0 m 686 ls [.int (0 : Int32)]) rfl ?_
          refine lv_istore (lv' := [(5, .int (0 : Int32)), (0, .ref b), (1, .ref ax), (2, .ref (aM 0)), (3, .ref ao), (4, .int x4)]) hx hb d_Law_law_686 hl (by decide) rfl (fun ls hl => ?_)
          refine lv_aload_n hx hb d_Law_law_688 rfl (lv_at hl 3 rfl) ?_
          refine lv_aload_n hx hb d_Law_law_689 rfl (lv_at hl 1 rfl) ?_
          refine lv_iload hx hb d_Law_law_690 (lv_at hl 5 rfl) ?_
          refine lv_iconst (v := 1) hx hb d_Law_law_692 (by decide) ?_
          refine x_add hx hb d_Law_law_693 h4 kc_1 (by omega) (fun z_1513 tz_1513 => ?_)
          refine w_sld hx hb hX hbl hbA hS (i + 1) tz_1513 (by omega) (by omega) d_Law_law_694 ?_
          refine x_V (As := [.int (xs (i + 1))]) (rest := []) hx hb hml hown hK (k_Mod_solve l D cA aM hiM I F nn mm en mk ch hch hWF (xs (i + 1))) t_1005 t_4 t_1002 t_1003 t_1004 yk_Mod_solve ⟨Nat.le_of_ble_eq_true rfl, Nat.le_of_ble_eq_true rfl⟩ (m_rec hK hM) hM rfl hl.1 rfl (Nat.le_of_ble_eq_true rfl) d_Law_law_695 hcs1 hS (fun q ⟨k9, h9, e9⟩ => by rw [e9]; exact hMs k9 h9) (fun r H2 locs hq hkk hS => ?_)
          have hP : va_P D classes (wl (List.range (56 + mm)) adr cn2) H2 := kpW hP hkk (fun n9 h9 _ ⟨k9, hk9, e9⟩ => hdj n9 h9 k9 hk9 e9)
          have hO : va_at D classes (ao, OUT cA g2) H2 := kpO hO hkk (fun _ ⟨k9, hk9, e9⟩ => hmo k9 hk9 e9.symm)
          obtain ⟨z2, rfl, hq2⟩ := hq
          refine W.eq (g2 := F0 m 698 ls [.int z2]) rfl ?_
          rcases hq2 with ⟨hno2, I2, F2, c2, h02, h20, hSm, hM⟩ | ⟨hok2, hz2, hrg, I2, F2, c2, h02, h20, hSm, hM⟩
          · exact absurd (if01 hcd) hno2
          · have hth : (I2 0).toInt = 0 := by rw [h02]; rfl
            refine lv_istore (lv' := [(6, .int z2), (5, .int (0 : Int32)), (0, .ref b), (1, .ref ax), (2, .ref (aM 0)), (3, .ref ao), (4, .int x4)]) hx hb d_Law_law_698 hl (by decide) rfl (fun ls hl => ?_)
            refine lv_aload_n hx hb d_Law_law_700 rfl (lv_at hl 4 rfl) ?_
            refine x_V (As := []) (rest := []) hx hb hml hown hK (k_Mod_thrown l D cA aM hiM I2 F2) t_850 t_4 t_847 t_848 t_849 yk_Mod_thrown ⟨Nat.le_of_ble_eq_true rfl, Nat.le_of_ble_eq_true rfl⟩ (m_rec hK hM) hM rfl hl.1 rfl (Nat.le_of_ble_eq_true rfl) d_Law_law_701 hcs1 hS (fun q ⟨k9, h9, e9⟩ => by rw [e9]; exact hMs k9 h9) (fun r H3 locs hq hkk hS => ?_)
            have hP : va_P D classes (wl (List.range (56 + mm)) adr cn2) H3 := kpW hP hkk (fun n9 h9 _ ⟨k9, hk9, e9⟩ => hdj n9 h9 k9 hk9 e9)
            have hO : va_at D classes (ao, OUT cA g2) H3 := kpO hO hkk (fun _ ⟨k9, hk9, e9⟩ => hmo k9 hk9 e9.symm)
            obtain ⟨rfl, hM⟩ := hq
            refine W.eq (g2 := F0 m 704 ls [.int (I2 0)]) rfl ?_
            refine lv_iload hx hb d_Law_law_704 (lv_at hl 1 rfl) ?_
            refine b_icmp_eq (tgt := 711) hx hb d_Law_law_706 (by decide) rfl kc_0 (fun c_1514 => ?_) (fun c_1514 => ?_)
            · refine lv_iload hx hb d_Law_law_711 (lv_at hl 1 rfl) ?_
              refine b_if_ne (tgt := 728) hx hb d_Law_law_713 (by decide) kc_0 (fun c_1515 => ?_) (fun c_1515 => ?_)
              · exact absurd c_1515 (by decide)
              · refine lv_aload_n hx hb d_Law_law_716 rfl (lv_at hl 5 rfl) ?_
                refine lv_iconst (v := 0) hx hb d_Law_law_717 (by decide) ?_
                refine w_oal hx hb hK hO d_Law_law_718 ?_
                refine lv_iload hx hb d_Law_law_719 (lv_at hl 0 rfl) ?_
                refine lv_i2l hx hb d_Law_law_721 rfl ?_
                have hzz : z1 = z2 := i32_eq (hz1.trans hz2.symm)
                refine W.lcmp hx hb d_Law_law_722 ?_
                refine W.eq (g2 := F0 m 723 ls [.int 0]) (by rw [hg2, hzz, lg_self]; rfl) ?_
                refine b_if_eq (tgt := 728) hx hb d_Law_law_723 (by decide) kc_0 (fun c_1516 => ?_) (fun c_1516 => ?_)
                · refine lv_goto (tgt := 930) hx hb d_Law_law_728 (by decide) ?_
                  exact hB _ _ _ (li_mk (hWF.fnd hrg.1 hrg.2) hSm h20 hM had hi hC2 hP hO hsz hao hdj) hS (lv_sub hl [2, 3, 4, 5, 6] rfl)
                · exact absurd c_1516 (by decide)
            · exact absurd hth c_1514
        · have hcdn : ¬ cd.toInt = 0 := by rw [hcd2]; exact hcd
          refine W.eq (g2 := F0 m 686 ls [.int cd]) rfl ?_
          refine lv_istore (lv' := [(5, .int cd), (0, .ref b), (1, .ref ax), (2, .ref (aM 0)), (3, .ref ao), (4, .int x4)]) hx hb d_Law_law_686 hl (by decide) rfl (fun ls hl => ?_)
          refine lv_aload_n hx hb d_Law_law_688 rfl (lv_at hl 3 rfl) ?_
          refine lv_aload_n hx hb d_Law_law_689 rfl (lv_at hl 1 rfl) ?_
          refine lv_iload hx hb d_Law_law_690 (lv_at hl 5 rfl) ?_
          refine lv_iconst (v := 1) hx hb d_Law_law_692 (by decide) ?_
          refine x_add hx hb d_Law_law_693 h4 kc_1 (by omega) (fun z_1517 tz_1517 => ?_)
          refine w_sld hx hb hX hbl hbA hS (i + 1) tz_1517 (by omega) (by omega) d_Law_law_694 ?_
          refine x_V (As := [.int (xs (i + 1))]) (rest := []) hx hb hml hown hK (k_Mod_solve l D cA aM hiM I F nn mm en mk ch hch hWF (xs (i + 1))) t_1005 t_4 t_1002 t_1003 t_1004 yk_Mod_solve ⟨Nat.le_of_ble_eq_true rfl, Nat.le_of_ble_eq_true rfl⟩ (m_rec hK hM) hM rfl hl.1 rfl (Nat.le_of_ble_eq_true rfl) d_Law_law_695 hcs1 hS (fun q ⟨k9, h9, e9⟩ => by rw [e9]; exact hMs k9 h9) (fun r H2 locs hq hkk hS => ?_)
          have hP : va_P D classes (wl (List.range (56 + mm)) adr cn2) H2 := kpW hP hkk (fun n9 h9 _ ⟨k9, hk9, e9⟩ => hdj n9 h9 k9 hk9 e9)
          have hO : va_at D classes (ao, OUT cA g) H2 := kpO hO hkk (fun _ ⟨k9, hk9, e9⟩ => hmo k9 hk9 e9.symm)
          obtain ⟨z2, rfl, hq2⟩ := hq
          refine W.eq (g2 := F0 m 698 ls [.int z2]) rfl ?_
          rcases hq2 with ⟨hno2, I2, F2, c2, h02, h20, hSm, hM⟩ | ⟨hok2, hz2, hrg, I2, F2, c2, h02, h20, hSm, hM⟩
          · have hth : (I2 0).toInt = cd.toInt := by rw [h02, hcd2, if_neg (if01n hcd)]; rfl
            refine lv_istore (lv' := [(6, .int z2), (5, .int cd), (0, .ref b), (1, .ref ax), (2, .ref (aM 0)), (3, .ref ao), (4, .int x4)]) hx hb d_Law_law_698 hl (by decide) rfl (fun ls hl => ?_)
            refine lv_aload_n hx hb d_Law_law_700 rfl (lv_at hl 4 rfl) ?_
            refine x_V (As := []) (rest := []) hx hb hml hown hK (k_Mod_thrown l D cA aM hiM I2 F2) t_850 t_4 t_847 t_848 t_849 yk_Mod_thrown ⟨Nat.le_of_ble_eq_true rfl, Nat.le_of_ble_eq_true rfl⟩ (m_rec hK hM) hM rfl hl.1 rfl (Nat.le_of_ble_eq_true rfl) d_Law_law_701 hcs1 hS (fun q ⟨k9, h9, e9⟩ => by rw [e9]; exact hMs k9 h9) (fun r H3 locs hq hkk hS => ?_)
            have hP : va_P D classes (wl (List.range (56 + mm)) adr cn2) H3 := kpW hP hkk (fun n9 h9 _ ⟨k9, hk9, e9⟩ => hdj n9 h9 k9 hk9 e9)
            have hO : va_at D classes (ao, OUT cA g) H3 := kpO hO hkk (fun _ ⟨k9, hk9, e9⟩ => hmo k9 hk9 e9.symm)
            obtain ⟨rfl, hM⟩ := hq
            refine W.eq (g2 := F0 m 704 ls [.int (I2 0)]) rfl ?_
            refine lv_iload hx hb d_Law_law_704 (lv_at hl 1 rfl) ?_
            refine b_icmp_eq (tgt := 711) hx hb d_Law_law_706 (by decide) rfl rfl (fun c_1518 => ?_) (fun c_1518 => ?_)
            · refine lv_iload hx hb d_Law_law_711 (lv_at hl 1 rfl) ?_
              refine b_if_ne (tgt := 728) hx hb d_Law_law_713 (by decide) rfl (fun c_1519 => ?_) (fun c_1519 => ?_)
              · refine lv_goto (tgt := 930) hx hb d_Law_law_728 (by decide) ?_
                exact hB _ _ _ (li_mk hWF hSm h20 hM had hi hC2 hP hO hsz hao hdj) hS (lv_sub hl [2, 3, 4, 5, 6] rfl)
              · exact absurd c_1519 hcdn
            · exact absurd hth c_1518
          · exact absurd hok2 (if01n hcd)
      by_cases c_1520 : ((xs i) &&& (31 : Int32)).toInt = 12
      · have e_1520 : ((xs i) &&& (31 : Int32)).toInt = 12 := (rfl).trans c_1520
        refine lv_tableIn (off := 692) (tgt := 731) hx hb d_Law_law_39 (by rw [e_1520]; decide) (by rw [e_1520]; decide) (by rw [e_1520]; rfl) (by decide) ?_
        refine lv_aload_n hx hb d_Law_law_731 rfl (lv_at hl 1 rfl) ?_
        refine lv_aload_n hx hb d_Law_law_732 rfl (lv_at hl 0 rfl) ?_
        refine lv_iload hx hb d_Law_law_733 (lv_at hl 4 rfl) ?_
        refine lv_iconst (v := 1) hx hb d_Law_law_735 (by decide) ?_
        refine x_add hx hb d_Law_law_736 h4 kc_1 (by omega) (fun z_1521 tz_1521 => ?_)
        refine w_sld hx hb hX hbl hbA hS (i + 1) tz_1521 (by omega) (by omega) d_Law_law_737 ?_
        refine lv_aload_n hx hb d_Law_law_738 rfl (lv_at hl 0 rfl) ?_
        refine lv_iload hx hb d_Law_law_739 (lv_at hl 4 rfl) ?_
        refine lv_iconst (v := 2) hx hb d_Law_law_741 (by decide) ?_
        refine x_add hx hb d_Law_law_742 h4 kc_2 (by omega) (fun z_1522 tz_1522 => ?_)
        refine w_sld hx hb hX hbl hbA hS (i + 2) tz_1522 (by omega) (by omega) d_Law_law_743 ?_
        refine lv_aload_n hx hb d_Law_law_744 rfl (lv_at hl 3 rfl) ?_
        refine l_SH (As := [.ref (adr 0), .int (xs (i + 1)), .int (xs (i + 2)), .ref ao]) (rest := []) hx hb hml hown hK (k_Law_least l htr D cA H.size adr cn ao g F I nn mm en mk (List.range (56 + mm)) hi hNm hao x dn hCP hWF (xs (i + 1)) (xs (i + 2))) t_715 t_0 t_713 t_714 yk_Law_least ⟨Nat.le_of_ble_eq_true rfl, Nat.le_of_ble_eq_true rfl⟩ (hThs H locs hS) hNC hP hO hS (fun q h9 => by rcases h9 with ⟨n9, h9, e9⟩ | e9 | e9; (rw [e9]; exact hsz n9 h9); (rw [e9]; exact haos); exact Nat.le_trans hS.1 e9) rfl hl.1 (by rw [had]; rfl) (Nat.le_of_ble_eq_true rfl) d_Law_law_745 hcs2 (fun r H1 locs hq hkk hzz hS => ?_)
        have hM : MP D cA aM I F H1 := kpW hM hkk (fun k9 hk9 hlt9 h9 => by rcases h9 with ⟨n9, h9, e9⟩ | e9 | e9; exact hdj n9 h9 k9 hk9 e9.symm; exact hmo k9 hk9 e9; omega)
        rcases hq with ⟨hcd, z1, g2, rfl, hz1, hg2, hO, cn2, x2, dn2, hC2, hP⟩ | ⟨hcd, cd, rfl, hcd2, hO, cn2, x2, dn2, hC2, hP⟩
        · refine W.eq (g2 := F0 m 748 ls [.int (0 : Int32)]) rfl ?_
          refine lv_istore (lv' := [(5, .int (0 : Int32)), (0, .ref b), (1, .ref ax), (2, .ref (aM 0)), (3, .ref ao), (4, .int x4)]) hx hb d_Law_law_748 hl (by decide) rfl (fun ls hl => ?_)
          refine lv_aload_n hx hb d_Law_law_750 rfl (lv_at hl 3 rfl) ?_
          refine lv_aload_n hx hb d_Law_law_751 rfl (lv_at hl 1 rfl) ?_
          refine lv_iload hx hb d_Law_law_752 (lv_at hl 5 rfl) ?_
          refine lv_iconst (v := 1) hx hb d_Law_law_754 (by decide) ?_
          refine x_add hx hb d_Law_law_755 h4 kc_1 (by omega) (fun z_1523 tz_1523 => ?_)
          refine w_sld hx hb hX hbl hbA hS (i + 1) tz_1523 (by omega) (by omega) d_Law_law_756 ?_
          refine lv_aload_n hx hb d_Law_law_757 rfl (lv_at hl 1 rfl) ?_
          refine lv_iload hx hb d_Law_law_758 (lv_at hl 5 rfl) ?_
          refine lv_iconst (v := 2) hx hb d_Law_law_760 (by decide) ?_
          refine x_add hx hb d_Law_law_761 h4 kc_2 (by omega) (fun z_1524 tz_1524 => ?_)
          refine w_sld hx hb hX hbl hbA hS (i + 2) tz_1524 (by omega) (by omega) d_Law_law_762 ?_
          refine x_V (As := [.int (xs (i + 1)), .int (xs (i + 2))]) (rest := []) hx hb hml hown hK (k_Mod_least l D cA aM hiM I F nn mm en mk ch hch hWF (xs (i + 1)) (xs (i + 2))) t_1025 t_4 t_1022 t_1023 t_1024 yk_Mod_least ⟨Nat.le_of_ble_eq_true rfl, Nat.le_of_ble_eq_true rfl⟩ (m_rec hK hM) hM rfl hl.1 rfl (Nat.le_of_ble_eq_true rfl) d_Law_law_763 hcs1 hS (fun q ⟨k9, h9, e9⟩ => by rw [e9]; exact hMs k9 h9) (fun r H2 locs hq hkk hS => ?_)
          have hP : va_P D classes (wl (List.range (56 + mm)) adr cn2) H2 := kpW hP hkk (fun n9 h9 _ ⟨k9, hk9, e9⟩ => hdj n9 h9 k9 hk9 e9)
          have hO : va_at D classes (ao, OUT cA g2) H2 := kpO hO hkk (fun _ ⟨k9, hk9, e9⟩ => hmo k9 hk9 e9.symm)
          obtain ⟨z2, rfl, hq2⟩ := hq
          refine W.eq (g2 := F0 m 766 ls [.int z2]) rfl ?_
          rcases hq2 with ⟨hno2, I2, F2, c2, h02, h20, hSm, hM⟩ | ⟨hok2, hz2, hrg, I2, F2, c2, h02, h20, hSm, hM⟩
          · exact absurd (if01 hcd) hno2
          · have hth : (I2 0).toInt = 0 := by rw [h02]; rfl
            refine lv_istore (lv' := [(6, .int z2), (5, .int (0 : Int32)), (0, .ref b), (1, .ref ax), (2, .ref (aM 0)), (3, .ref ao), (4, .int x4)]) hx hb d_Law_law_766 hl (by decide) rfl (fun ls hl => ?_)
            refine lv_aload_n hx hb d_Law_law_768 rfl (lv_at hl 4 rfl) ?_
            refine x_V (As := []) (rest := []) hx hb hml hown hK (k_Mod_thrown l D cA aM hiM I2 F2) t_850 t_4 t_847 t_848 t_849 yk_Mod_thrown ⟨Nat.le_of_ble_eq_true rfl, Nat.le_of_ble_eq_true rfl⟩ (m_rec hK hM) hM rfl hl.1 rfl (Nat.le_of_ble_eq_true rfl) d_Law_law_769 hcs1 hS (fun q ⟨k9, h9, e9⟩ => by rw [e9]; exact hMs k9 h9) (fun r H3 locs hq hkk hS => ?_)
            have hP : va_P D classes (wl (List.range (56 + mm)) adr cn2) H3 := kpW hP hkk (fun n9 h9 _ ⟨k9, hk9, e9⟩ => hdj n9 h9 k9 hk9 e9)
            have hO : va_at D classes (ao, OUT cA g2) H3 := kpO hO hkk (fun _ ⟨k9, hk9, e9⟩ => hmo k9 hk9 e9.symm)
            obtain ⟨rfl, hM⟩ := hq
            refine W.eq (g2 := F0 m 772 ls [.int (I2 0)]) rfl ?_
            refine lv_iload hx hb d_Law_law_772 (lv_at hl 1 rfl) ?_
            refine b_icmp_eq (tgt := 779) hx hb d_Law_law_774 (by decide) rfl kc_0 (fun c_1525 => ?_) (fun c_1525 => ?_)
            · refine lv_iload hx hb d_Law_law_779 (lv_at hl 1 rfl) ?_
              refine b_if_ne (tgt := 796) hx hb d_Law_law_781 (by decide) kc_0 (fun c_1526 => ?_) (fun c_1526 => ?_)
              · exact absurd c_1526 (by decide)
              · refine lv_aload_n hx hb d_Law_law_784 rfl (lv_at hl 5 rfl) ?_
                refine lv_iconst (v := 0) hx hb d_Law_law_785 (by decide) ?_
                refine w_oal hx hb hK hO d_Law_law_786 ?_
                refine lv_iload hx hb d_Law_law_787 (lv_at hl 0 rfl) ?_
                refine lv_i2l hx hb d_Law_law_789 rfl ?_
                have hzz : z1 = z2 := i32_eq (hz1.trans ((fnd_res (by omega) hrg.2).trans hz2.symm))
                refine W.lcmp hx hb d_Law_law_790 ?_
                refine W.eq (g2 := F0 m 791 ls [.int 0]) (by rw [hg2, hzz, lg_self]; rfl) ?_
                refine b_if_eq (tgt := 796) hx hb d_Law_law_791 (by decide) kc_0 (fun c_1527 => ?_) (fun c_1527 => ?_)
                · refine lv_goto (tgt := 930) hx hb d_Law_law_796 (by decide) ?_
                  exact hB _ _ _ (li_mk (hWF.fnd hrg.1 hrg.2) hSm h20 hM had hi hC2 hP hO hsz hao hdj) hS (lv_sub hl [2, 3, 4, 5, 6] rfl)
                · exact absurd c_1527 (by decide)
            · exact absurd hth c_1525
        · have hcdn : ¬ cd.toInt = 0 := by rw [hcd2]; exact hcd
          refine W.eq (g2 := F0 m 748 ls [.int cd]) rfl ?_
          refine lv_istore (lv' := [(5, .int cd), (0, .ref b), (1, .ref ax), (2, .ref (aM 0)), (3, .ref ao), (4, .int x4)]) hx hb d_Law_law_748 hl (by decide) rfl (fun ls hl => ?_)
          refine lv_aload_n hx hb d_Law_law_750 rfl (lv_at hl 3 rfl) ?_
          refine lv_aload_n hx hb d_Law_law_751 rfl (lv_at hl 1 rfl) ?_
          refine lv_iload hx hb d_Law_law_752 (lv_at hl 5 rfl) ?_
          refine lv_iconst (v := 1) hx hb d_Law_law_754 (by decide) ?_
          refine x_add hx hb d_Law_law_755 h4 kc_1 (by omega) (fun z_1528 tz_1528 => ?_)
          refine w_sld hx hb hX hbl hbA hS (i + 1) tz_1528 (by omega) (by omega) d_Law_law_756 ?_
          refine lv_aload_n hx hb d_Law_law_757 rfl (lv_at hl 1 rfl) ?_
          refine lv_iload hx hb d_Law_law_758 (lv_at hl 5 rfl) ?_
          refine lv_iconst (v := 2) hx hb d_Law_law_760 (by decide) ?_
          refine x_add hx hb d_Law_law_761 h4 kc_2 (by omega) (fun z_1529 tz_1529 => ?_)
          refine w_sld hx hb hX hbl hbA hS (i + 2) tz_1529 (by omega) (by omega) d_Law_law_762 ?_
          refine x_V (As := [.int (xs (i + 1)), .int (xs (i + 2))]) (rest := []) hx hb hml hown hK (k_Mod_least l D cA aM hiM I F nn mm en mk ch hch hWF (xs (i + 1)) (xs (i + 2))) t_1025 t_4 t_1022 t_1023 t_1024 yk_Mod_least ⟨Nat.le_of_ble_eq_true rfl, Nat.le_of_ble_eq_true rfl⟩ (m_rec hK hM) hM rfl hl.1 rfl (Nat.le_of_ble_eq_true rfl) d_Law_law_763 hcs1 hS (fun q ⟨k9, h9, e9⟩ => by rw [e9]; exact hMs k9 h9) (fun r H2 locs hq hkk hS => ?_)
          have hP : va_P D classes (wl (List.range (56 + mm)) adr cn2) H2 := kpW hP hkk (fun n9 h9 _ ⟨k9, hk9, e9⟩ => hdj n9 h9 k9 hk9 e9)
          have hO : va_at D classes (ao, OUT cA g) H2 := kpO hO hkk (fun _ ⟨k9, hk9, e9⟩ => hmo k9 hk9 e9.symm)
          obtain ⟨z2, rfl, hq2⟩ := hq
          refine W.eq (g2 := F0 m 766 ls [.int z2]) rfl ?_
          rcases hq2 with ⟨hno2, I2, F2, c2, h02, h20, hSm, hM⟩ | ⟨hok2, hz2, hrg, I2, F2, c2, h02, h20, hSm, hM⟩
          · have hth : (I2 0).toInt = cd.toInt := by rw [h02, hcd2, if_neg (if01n hcd)]; rfl
            refine lv_istore (lv' := [(6, .int z2), (5, .int cd), (0, .ref b), (1, .ref ax), (2, .ref (aM 0)), (3, .ref ao), (4, .int x4)]) hx hb d_Law_law_766 hl (by decide) rfl (fun ls hl => ?_)
            refine lv_aload_n hx hb d_Law_law_768 rfl (lv_at hl 4 rfl) ?_
            refine x_V (As := []) (rest := []) hx hb hml hown hK (k_Mod_thrown l D cA aM hiM I2 F2) t_850 t_4 t_847 t_848 t_849 yk_Mod_thrown ⟨Nat.le_of_ble_eq_true rfl, Nat.le_of_ble_eq_true rfl⟩ (m_rec hK hM) hM rfl hl.1 rfl (Nat.le_of_ble_eq_true rfl) d_Law_law_769 hcs1 hS (fun q ⟨k9, h9, e9⟩ => by rw [e9]; exact hMs k9 h9) (fun r H3 locs hq hkk hS => ?_)
            have hP : va_P D classes (wl (List.range (56 + mm)) adr cn2) H3 := kpW hP hkk (fun n9 h9 _ ⟨k9, hk9, e9⟩ => hdj n9 h9 k9 hk9 e9)
            have hO : va_at D classes (ao, OUT cA g) H3 := kpO hO hkk (fun _ ⟨k9, hk9, e9⟩ => hmo k9 hk9 e9.symm)
            obtain ⟨rfl, hM⟩ := hq
            refine W.eq (g2 := F0 m 772 ls [.int (I2 0)]) rfl ?_
            refine lv_iload hx hb d_Law_law_772 (lv_at hl 1 rfl) ?_
            refine b_icmp_eq (tgt := 779) hx hb d_Law_law_774 (by decide) rfl rfl (fun c_1530 => ?_) (fun c_1530 => ?_)
            · refine lv_iload hx hb d_Law_law_779 (lv_at hl 1 rfl) ?_
              refine b_if_ne (tgt := 796) hx hb d_Law_law_781 (by decide) rfl (fun c_1531 => ?_) (fun c_1531 => ?_)
              · refine lv_goto (tgt := 930) hx hb d_Law_law_796 (by decide) ?_
                exact hB _ _ _ (li_mk hWF hSm h20 hM had hi hC2 hP hO hsz hao hdj) hS (lv_sub hl [2, 3, 4, 5, 6] rfl)
              · exact absurd c_1531 hcdn
            · exact absurd hth c_1530
          · exact absurd hok2 (if01n hcd)
      by_cases c_1532 : ((xs i) &&& (31 : Int32)).toInt = 13
      · have e_1532 : ((xs i) &&& (31 : Int32)).toInt = 13 := (rfl).trans c_1532
        refine lv_tableIn (off := 760) (tgt := 799) hx hb d_Law_law_39 (by rw [e_1532]; decide) (by rw [e_1532]; decide) (by rw [e_1532]; rfl) (by decide) ?_
        refine lv_aload_n hx hb d_Law_law_799 rfl (lv_at hl 1 rfl) ?_
        refine lv_aload_n hx hb d_Law_law_800 rfl (lv_at hl 0 rfl) ?_
        refine lv_iload hx hb d_Law_law_801 (lv_at hl 4 rfl) ?_
        refine lv_iconst (v := 1) hx hb d_Law_law_803 (by decide) ?_
        refine x_add hx hb d_Law_law_804 h4 kc_1 (by omega) (fun z_1533 tz_1533 => ?_)
        refine w_sld hx hb hX hbl hbA hS (i + 1) tz_1533 (by omega) (by omega) d_Law_law_805 ?_
        refine lv_aload_n hx hb d_Law_law_806 rfl (lv_at hl 0 rfl) ?_
        refine lv_iload hx hb d_Law_law_807 (lv_at hl 4 rfl) ?_
        refine lv_iconst (v := 2) hx hb d_Law_law_809 (by decide) ?_
        refine x_add hx hb d_Law_law_810 h4 kc_2 (by omega) (fun z_1534 tz_1534 => ?_)
        refine w_sld hx hb hX hbl hbA hS (i + 2) tz_1534 (by omega) (by omega) d_Law_law_811 ?_
        refine lv_aload_n hx hb d_Law_law_812 rfl (lv_at hl 3 rfl) ?_
        refine l_SH (As := [.ref (adr 0), .int (xs (i + 1)), .int (xs (i + 2)), .ref ao]) (rest := []) hx hb hml hown hK (k_Law_greatest l htr D cA H.size adr cn ao g F I nn mm en mk (List.range (56 + mm)) hi hNm hao x dn hCP hWF (xs (i + 1)) (xs (i + 2))) t_726 t_0 t_724 t_725 yk_Law_greatest ⟨Nat.le_of_ble_eq_true rfl, Nat.le_of_ble_eq_true rfl⟩ (hThs H locs hS) hNC hP hO hS (fun q h9 => by rcases h9 with ⟨n9, h9, e9⟩ | e9 | e9; (rw [e9]; exact hsz n9 h9); (rw [e9]; exact haos); exact Nat.le_trans hS.1 e9) rfl hl.1 (by rw [had]; rfl) (Nat.le_of_ble_eq_true rfl) d_Law_law_813 hcs2 (fun r H1 locs hq hkk hzz hS => ?_)
        have hM : MP D cA aM I F H1 := kpW hM hkk (fun k9 hk9 hlt9 h9 => by rcases h9 with ⟨n9, h9, e9⟩ | e9 | e9; exact hdj n9 h9 k9 hk9 e9.symm; exact hmo k9 hk9 e9; omega)
        rcases hq with ⟨hcd, z1, g2, rfl, hz1, hg2, hO, cn2, x2, dn2, hC2, hP⟩ | ⟨hcd, cd, rfl, hcd2, hO, cn2, x2, dn2, hC2, hP⟩
        · refine W.eq (g2 := F0 m 816 ls [.int (0 : Int32)]) rfl ?_
          refine lv_istore (lv' := [(5, .int (0 : Int32)), (0, .ref b), (1, .ref ax), (2, .ref (aM 0)), (3, .ref ao), (4, .int x4)]) hx hb d_Law_law_816 hl (by decide) rfl (fun ls hl => ?_)
          refine lv_aload_n hx hb d_Law_law_818 rfl (lv_at hl 3 rfl) ?_
          refine lv_aload_n hx hb d_Law_law_819 rfl (lv_at hl 1 rfl) ?_
          refine lv_iload hx hb d_Law_law_820 (lv_at hl 5 rfl) ?_
          refine lv_iconst (v := 1) hx hb d_Law_law_822 (by decide) ?_
          refine x_add hx hb d_Law_law_823 h4 kc_1 (by omega) (fun z_1535 tz_1535 => ?_)
          refine w_sld hx hb hX hbl hbA hS (i + 1) tz_1535 (by omega) (by omega) d_Law_law_824 ?_
          refine lv_aload_n hx hb d_Law_law_825 rfl (lv_at hl 1 rfl) ?_
          refine lv_iload hx hb d_Law_law_826 (lv_at hl 5 rfl) ?_
          refine lv_iconst (v := 2) hx hb d_Law_law_828 (by decide) ?_
          refine x_add hx hb d_Law_law_829 h4 kc_2 (by omega) (fun z_1536 tz_1536 => ?_)
          refine w_sld hx hb hX hbl hbA hS (i + 2) tz_1536 (by omega) (by omega) d_Law_law_830 ?_
          refine x_V (As := [.int (xs (i + 1)), .int (xs (i + 2))]) (rest := []) hx hb hml hown hK (k_Mod_greatest l D cA aM hiM I F nn mm en mk ch hch hWF (xs (i + 1)) (xs (i + 2))) t_1033 t_4 t_1030 t_1031 t_1032 yk_Mod_greatest ⟨Nat.le_of_ble_eq_true rfl, Nat.le_of_ble_eq_true rfl⟩ (m_rec hK hM) hM rfl hl.1 rfl (Nat.le_of_ble_eq_true rfl) d_Law_law_831 hcs1 hS (fun q ⟨k9, h9, e9⟩ => by rw [e9]; exact hMs k9 h9) (fun r H2 locs hq hkk hS => ?_)
          have hP : va_P D classes (wl (List.range (56 + mm)) adr cn2) H2 := kpW hP hkk (fun n9 h9 _ ⟨k9, hk9, e9⟩ => hdj n9 h9 k9 hk9 e9)
          have hO : va_at D classes (ao, OUT cA g2) H2 := kpO hO hkk (fun _ ⟨k9, hk9, e9⟩ => hmo k9 hk9 e9.symm)
          obtain ⟨z2, rfl, hq2⟩ := hq
          refine W.eq (g2 := F0 m 834 ls [.int z2]) rfl ?_
          rcases hq2 with ⟨hno2, I2, F2, c2, h02, h20, hSm, hM⟩ | ⟨hok2, hz2, hrg, I2, F2, c2, h02, h20, hSm, hM⟩
          · exact absurd (if01 hcd) hno2
          · have hth : (I2 0).toInt = 0 := by rw [h02]; rfl
            refine lv_istore (lv' := [(6, .int z2), (5, .int (0 : Int32)), (0, .ref b), (1, .ref ax), (2, .ref (aM 0)), (3, .ref ao), (4, .int x4)]) hx hb d_Law_law_834 hl (by decide) rfl (fun ls hl => ?_)
            refine lv_aload_n hx hb d_Law_law_836 rfl (lv_at hl 4 rfl) ?_
            refine x_V (As := []) (rest := []) hx hb hml hown hK (k_Mod_thrown l D cA aM hiM I2 F2) t_850 t_4 t_847 t_848 t_849 yk_Mod_thrown ⟨Nat.le_of_ble_eq_true rfl, Nat.le_of_ble_eq_true rfl⟩ (m_rec hK hM) hM rfl hl.1 rfl (Nat.le_of_ble_eq_true rfl) d_Law_law_837 hcs1 hS (fun q ⟨k9, h9, e9⟩ => by rw [e9]; exact hMs k9 h9) (fun r H3 locs hq hkk hS => ?_)
            have hP : va_P D classes (wl (List.range (56 + mm)) adr cn2) H3 := kpW hP hkk (fun n9 h9 _ ⟨k9, hk9, e9⟩ => hdj n9 h9 k9 hk9 e9)
            have hO : va_at D classes (ao, OUT cA g2) H3 := kpO hO hkk (fun _ ⟨k9, hk9, e9⟩ => hmo k9 hk9 e9.symm)
            obtain ⟨rfl, hM⟩ := hq
            refine W.eq (g2 := F0 m 840 ls [.int (I2 0)]) rfl ?_
            refine lv_iload hx hb d_Law_law_840 (lv_at hl 1 rfl) ?_
            refine b_icmp_eq (tgt := 847) hx hb d_Law_law_842 (by decide) rfl kc_0 (fun c_1537 => ?_) (fun c_1537 => ?_)
            · refine lv_iload hx hb d_Law_law_847 (lv_at hl 1 rfl) ?_
              refine b_if_ne (tgt := 864) hx hb d_Law_law_849 (by decide) kc_0 (fun c_1538 => ?_) (fun c_1538 => ?_)
              · exact absurd c_1538 (by decide)
              · refine lv_aload_n hx hb d_Law_law_852 rfl (lv_at hl 5 rfl) ?_
                refine lv_iconst (v := 0) hx hb d_Law_law_853 (by decide) ?_
                refine w_oal hx hb hK hO d_Law_law_854 ?_
                refine lv_iload hx hb d_Law_law_855 (lv_at hl 0 rfl) ?_
                refine lv_i2l hx hb d_Law_law_857 rfl ?_
                have hzz : z1 = z2 := i32_eq (hz1.trans ((fnd_res (by omega) hrg.2).trans hz2.symm))
                refine W.lcmp hx hb d_Law_law_858 ?_
                refine W.eq (g2 := F0 m 859 ls [.int 0]) (by rw [hg2, hzz, lg_self]; rfl) ?_
                refine b_if_eq (tgt := 864) hx hb d_Law_law_859 (by decide) kc_0 (fun c_1539 => ?_) (fun c_1539 => ?_)
                · refine lv_goto (tgt := 930) hx hb d_Law_law_864 (by decide) ?_
                  exact hB _ _ _ (li_mk (hWF.fnd hrg.1 hrg.2) hSm h20 hM had hi hC2 hP hO hsz hao hdj) hS (lv_sub hl [2, 3, 4, 5, 6] rfl)
                · exact absurd c_1539 (by decide)
            · exact absurd hth c_1537
        · have hcdn : ¬ cd.toInt = 0 := by rw [hcd2]; exact hcd
          refine W.eq (g2 := F0 m 816 ls [.int cd]) rfl ?_
          refine lv_istore (lv' := [(5, .int cd), (0, .ref b), (1, .ref ax), (2, .ref (aM 0)), (3, .ref ao), (4, .int x4)]) hx hb d_Law_law_816 hl (by decide) rfl (fun ls hl => ?_)
          refine lv_aload_n hx hb d_Law_law_818 rfl (lv_at hl 3 rfl) ?_
          refine lv_aload_n hx hb d_Law_law_819 rfl (lv_at hl 1 rfl) ?_
          refine lv_iload hx hb d_Law_law_820 (lv_at hl 5 rfl) ?_
          refine lv_iconst (v := 1) hx hb d_Law_law_822 (by decide) ?_
          refine x_add hx hb d_Law_law_823 h4 kc_1 (by omega) (fun z_1540 tz_1540 => ?_)
          refine w_sld hx hb hX hbl hbA hS (i + 1) tz_1540 (by omega) (by omega) d_Law_law_824 ?_
          refine lv_aload_n hx hb d_Law_law_825 rfl (lv_at hl 1 rfl) ?_
          refine lv_iload hx hb d_Law_law_826 (lv_at hl 5 rfl) ?_
          refine lv_iconst (v := 2) hx hb d_Law_law_828 (by decide) ?_
          refine x_add hx hb d_Law_law_829 h4 kc_2 (by omega) (fun z_1541 tz_1541 => ?_)
          refine w_sld hx hb hX hbl hbA hS (i + 2) tz_1541 (by omega) (by omega) d_Law_law_830 ?_
          refine x_V (As := [.int (xs (i + 1)), .int (xs (i + 2))]) (rest := []) hx hb hml hown hK (k_Mod_greatest l D cA aM hiM I F nn mm en mk ch hch hWF (xs (i + 1)) (xs (i + 2))) t_1033 t_4 t_1030 t_1031 t_1032 yk_Mod_greatest ⟨Nat.le_of_ble_eq_true rfl, Nat.le_of_ble_eq_true rfl⟩ (m_rec hK hM) hM rfl hl.1 rfl (Nat.le_of_ble_eq_true rfl) d_Law_law_831 hcs1 hS (fun q ⟨k9, h9, e9⟩ => by rw [e9]; exact hMs k9 h9) (fun r H2 locs hq hkk hS => ?_)
          have hP : va_P D classes (wl (List.range (56 + mm)) adr cn2) H2 := kpW hP hkk (fun n9 h9 _ ⟨k9, hk9, e9⟩ => hdj n9 h9 k9 hk9 e9)
          have hO : va_at D classes (ao, OUT cA g) H2 := kpO hO hkk (fun _ ⟨k9, hk9, e9⟩ => hmo k9 hk9 e9.symm)
          obtain ⟨z2, rfl, hq2⟩ := hq
          refine W.eq (g2 := F0 m 834 ls [.int z2]) rfl ?_
          rcases hq2 with ⟨hno2, I2, F2, c2, h02, h20, hSm, hM⟩ | ⟨hok2, hz2, hrg, I2, F2, c2, h02, h20, hSm, hM⟩
          · have hth : (I2 0).toInt = cd.toInt := by rw [h02, hcd2, if_neg (if01n hcd)]; rfl
            refine lv_istore (lv' := [(6, .int z2), (5, .int cd), (0, .ref b), (1, .ref ax), (2, .ref (aM 0)), (3, .ref ao), (4, .int x4)]) hx hb d_Law_law_834 hl (by decide) rfl (fun ls hl => ?_)
            refine lv_aload_n hx hb d_Law_law_836 rfl (lv_at hl 4 rfl) ?_
            refine x_V (As := []) (rest := []) hx hb hml hown hK (k_Mod_thrown l D cA aM hiM I2 F2) t_850 t_4 t_847 t_848 t_849 yk_Mod_thrown ⟨Nat.le_of_ble_eq_true rfl, Nat.le_of_ble_eq_true rfl⟩ (m_rec hK hM) hM rfl hl.1 rfl (Nat.le_of_ble_eq_true rfl) d_Law_law_837 hcs1 hS (fun q ⟨k9, h9, e9⟩ => by rw [e9]; exact hMs k9 h9) (fun r H3 locs hq hkk hS => ?_)
            have hP : va_P D classes (wl (List.range (56 + mm)) adr cn2) H3 := kpW hP hkk (fun n9 h9 _ ⟨k9, hk9, e9⟩ => hdj n9 h9 k9 hk9 e9)
            have hO : va_at D classes (ao, OUT cA g) H3 := kpO hO hkk (fun _ ⟨k9, hk9, e9⟩ => hmo k9 hk9 e9.symm)
            obtain ⟨rfl, hM⟩ := hq
            refine W.eq (g2 := F0 m 840 ls [.int (I2 0)]) rfl ?_
            refine lv_iload hx hb d_Law_law_840 (lv_at hl 1 rfl) ?_
            refine b_icmp_eq (tgt := 847) hx hb d_Law_law_842 (by decide) rfl rfl (fun c_1542 => ?_) (fun c_1542 => ?_)
            · refine lv_iload hx hb d_Law_law_847 (lv_at hl 1 rfl) ?_
              refine b_if_ne (tgt := 864) hx hb d_Law_law_849 (by decide) rfl (fun c_1543 => ?_) (fun c_1543 => ?_)
              · refine lv_goto (tgt := 930) hx hb d_Law_law_864 (by decide) ?_
                exact hB _ _ _ (li_mk hWF hSm h20 hM had hi hC2 hP hO hsz hao hdj) hS (lv_sub hl [2, 3, 4, 5, 6] rfl)
              · exact absurd c_1543 hcdn
            · exact absurd hth c_1542
          · exact absurd hok2 (if01n hcd)
      by_cases c_1544 : ((xs i) &&& (31 : Int32)).toInt = 14
      · have e_1544 : ((xs i) &&& (31 : Int32)).toInt = 14 := (rfl).trans c_1544
        refine lv_tableIn (off := 828) (tgt := 867) hx hb d_Law_law_39 (by rw [e_1544]; decide) (by rw [e_1544]; decide) (by rw [e_1544]; rfl) (by decide) ?_
        refine lv_aload_n hx hb d_Law_law_867 rfl (lv_at hl 1 rfl) ?_
        refine x_V (As := []) (rest := []) hx hb hml hown hK (k_Sht_steps l D cA adr (List.range (56 + mm)) hi cn F I nn mm en mk x dn hCP hNm hWF ) t_314 t_1 t_311 t_312 t_313 yk_Sht_steps ⟨Nat.le_of_ble_eq_true rfl, Nat.le_of_ble_eq_true rfl⟩ (w_rec hK hP (hNm 0 (by omega)) hCP.1.1 rfl) hP rfl hl.1 (by rw [had]; rfl) (Nat.le_of_ble_eq_true rfl) d_Law_law_868 hcs hS (fun q ⟨n9, h9, e9⟩ => by rw [e9]; exact hsz n9 h9) (fun r H1 locs hq hkk hS => ?_)
        have hM : MP D cA aM I F H1 := kpW hM hkk (fun k9 hk9 _ ⟨n9, h9, e9⟩ => hdj n9 h9 k9 hk9 e9.symm)
        have hO : va_at D classes (ao, OUT cA g) H1 := kpO hO hkk (fun _ ⟨n9, h9, e9⟩ => hao n9 h9 e9.symm)
        obtain ⟨z1, rfl, hz1, cn2, x2, dn2, hC2, hP⟩ := hq
        refine W.eq (g2 := F0 m 871 ls [.int z1]) rfl ?_
        refine lv_aload_n hx hb d_Law_law_871 rfl (lv_at hl 2 rfl) ?_
        refine x_V (As := []) (rest := [.int z1]) hx hb hml hown hK (k_Mod_steps l D cA aM hiM I F nn mm en mk ch hch hWF ) t_1037 t_4 t_1034 t_1035 t_1036 yk_Mod_steps ⟨Nat.le_of_ble_eq_true rfl, Nat.le_of_ble_eq_true rfl⟩ (m_rec hK hM) hM rfl hl.1 rfl (Nat.le_of_ble_eq_true rfl) d_Law_law_872 hcs hS (fun q ⟨k9, h9, e9⟩ => by rw [e9]; exact hMs k9 h9) (fun r H2 locs hq hkk hS => ?_)
        have hP : va_P D classes (wl (List.range (56 + mm)) adr cn2) H2 := kpW hP hkk (fun n9 h9 _ ⟨k9, hk9, e9⟩ => hdj n9 h9 k9 hk9 e9)
        have hO : va_at D classes (ao, OUT cA g) H2 := kpO hO hkk (fun _ ⟨k9, hk9, e9⟩ => hmo k9 hk9 e9.symm)
        obtain ⟨z2, rfl, hz2, I2, F2, c2, h02, h20, hSm, hM⟩ := hq
        refine W.eq (g2 := F0 m 875 ls [.int z2, .int z1]) rfl ?_
        refine b_icmp_eq (tgt := 930) hx hb d_Law_law_875 (by decide) rfl rfl (fun c_1545 => ?_) (fun c_1545 => ?_)
        · exact W_up (Nat.le_succ _) (Nat.le_add_right _ _) (hB _ _ _ (li_mk hWF hSm h20 hM had hi hC2 hP hO hsz hao hdj) hS (lv_sub hl [0, 1, 2, 3, 4] rfl))
        · exact absurd (hz1.trans hz2.symm) c_1545
      by_cases c_1546 : ((xs i) &&& (31 : Int32)).toInt = 15
      · have e_1546 : ((xs i) &&& (31 : Int32)).toInt = 15 := (rfl).trans c_1546
        refine lv_tableIn (off := 841) (tgt := 880) hx hb d_Law_law_39 (by rw [e_1546]; decide) (by rw [e_1546]; decide) (by rw [e_1546]; rfl) (by decide) ?_
        refine lv_aload_n hx hb d_Law_law_880 rfl (lv_at hl 1 rfl) ?_
        refine lv_aload_n hx hb d_Law_law_881 rfl (lv_at hl 0 rfl) ?_
        refine lv_iload hx hb d_Law_law_882 (lv_at hl 4 rfl) ?_
        refine lv_iconst (v := 1) hx hb d_Law_law_884 (by decide) ?_
        refine x_add hx hb d_Law_law_885 h4 kc_1 (by omega) (fun z_1547 tz_1547 => ?_)
        refine w_sld hx hb hX hbl hbA hS (i + 1) tz_1547 (by omega) (by omega) d_Law_law_886 ?_
        refine x_V (As := [.int (xs (i + 1))]) (rest := []) hx hb hml hown hK (k_Sht_value l D cA adr (List.range (56 + mm)) hi cn F I nn mm en mk x dn hCP hNm hWF (xs (i + 1))) t_318 t_1 t_315 t_316 t_317 yk_Sht_value ⟨Nat.le_of_ble_eq_true rfl, Nat.le_of_ble_eq_true rfl⟩ (w_rec hK hP (hNm 0 (by omega)) hCP.1.1 rfl) hP rfl hl.1 (by rw [had]; rfl) (Nat.le_of_ble_eq_true rfl) d_Law_law_887 hcs hS (fun q ⟨n9, h9, e9⟩ => by rw [e9]; exact hsz n9 h9) (fun r H1 locs hq hkk hS => ?_)
        have hM : MP D cA aM I F H1 := kpW hM hkk (fun k9 hk9 _ ⟨n9, h9, e9⟩ => hdj n9 h9 k9 hk9 e9.symm)
        have hO : va_at D classes (ao, OUT cA g) H1 := kpO hO hkk (fun _ ⟨n9, h9, e9⟩ => hao n9 h9 e9.symm)
        obtain ⟨z1, rfl, hz1, cn2, x2, dn2, hC2, hP⟩ := hq
        refine W.eq (g2 := F0 m 890 ls [.int z1]) rfl ?_
        refine lv_aload_n hx hb d_Law_law_890 rfl (lv_at hl 2 rfl) ?_
        refine lv_aload_n hx hb d_Law_law_891 rfl (lv_at hl 0 rfl) ?_
        refine lv_iload hx hb d_Law_law_892 (lv_at hl 4 rfl) ?_
        refine lv_iconst (v := 1) hx hb d_Law_law_894 (by decide) ?_
        refine x_add hx hb d_Law_law_895 h4 kc_1 (by omega) (fun z_1548 tz_1548 => ?_)
        refine w_sld hx hb hX hbl hbA hS (i + 1) tz_1548 (by omega) (by omega) d_Law_law_896 ?_
        refine x_V (As := [.int (xs (i + 1))]) (rest := [.int z1]) hx hb hml hown hK (k_Mod_value l D cA aM hiM I F nn mm en mk ch hch hWF (xs (i + 1))) t_1041 t_4 t_1038 t_1039 t_1040 yk_Mod_value ⟨Nat.le_of_ble_eq_true rfl, Nat.le_of_ble_eq_true rfl⟩ (m_rec hK hM) hM rfl hl.1 rfl (Nat.le_of_ble_eq_true rfl) d_Law_law_897 hcs hS (fun q ⟨k9, h9, e9⟩ => by rw [e9]; exact hMs k9 h9) (fun r H2 locs hq hkk hS => ?_)
        have hP : va_P D classes (wl (List.range (56 + mm)) adr cn2) H2 := kpW hP hkk (fun n9 h9 _ ⟨k9, hk9, e9⟩ => hdj n9 h9 k9 hk9 e9)
        have hO : va_at D classes (ao, OUT cA g) H2 := kpO hO hkk (fun _ ⟨k9, hk9, e9⟩ => hmo k9 hk9 e9.symm)
        obtain ⟨z2, rfl, hz2, I2, F2, c2, h02, h20, hSm, hM⟩ := hq
        refine W.eq (g2 := F0 m 900 ls [.int z2, .int z1]) rfl ?_
        refine b_icmp_eq (tgt := 930) hx hb d_Law_law_900 (by decide) rfl rfl (fun c_1549 => ?_) (fun c_1549 => ?_)
        · exact W_up (Nat.le_succ _) (Nat.le_add_right _ _) (hB _ _ _ (li_mk hWF hSm h20 hM had hi hC2 hP hO hsz hao hdj) hS (lv_sub hl [0, 1, 2, 3, 4] rfl))
        · exact absurd (hz1.trans hz2.symm) c_1549
      by_cases c_1550 : ((xs i) &&& (31 : Int32)).toInt = 16
      · have e_1550 : ((xs i) &&& (31 : Int32)).toInt = 16 := (rfl).trans c_1550
        refine lv_tableIn (off := 866) (tgt := 905) hx hb d_Law_law_39 (by rw [e_1550]; decide) (by rw [e_1550]; decide) (by rw [e_1550]; rfl) (by decide) ?_
        refine lv_aload_n hx hb d_Law_law_905 rfl (lv_at hl 1 rfl) ?_
        refine lv_aload_n hx hb d_Law_law_906 rfl (lv_at hl 0 rfl) ?_
        refine lv_iload hx hb d_Law_law_907 (lv_at hl 4 rfl) ?_
        refine lv_iconst (v := 1) hx hb d_Law_law_909 (by decide) ?_
        refine x_add hx hb d_Law_law_910 h4 kc_1 (by omega) (fun z_1551 tz_1551 => ?_)
        refine w_sld hx hb hX hbl hbA hS (i + 1) tz_1551 (by omega) (by omega) d_Law_law_911 ?_
        refine x_V (As := [.int (xs (i + 1))]) (rest := []) hx hb hml hown hK (k_Sht_satisfied l D cA adr (List.range (56 + mm)) hi cn F I nn mm en mk x dn hCP hNm hWF (xs (i + 1))) t_322 t_1 t_319 t_320 t_321 yk_Sht_satisfied ⟨Nat.le_of_ble_eq_true rfl, Nat.le_of_ble_eq_true rfl⟩ (w_rec hK hP (hNm 0 (by omega)) hCP.1.1 rfl) hP rfl hl.1 (by rw [had]; rfl) (Nat.le_of_ble_eq_true rfl) d_Law_law_912 hcs hS (fun q ⟨n9, h9, e9⟩ => by rw [e9]; exact hsz n9 h9) (fun r H1 locs hq hkk hS => ?_)
        have hM : MP D cA aM I F H1 := kpW hM hkk (fun k9 hk9 _ ⟨n9, h9, e9⟩ => hdj n9 h9 k9 hk9 e9.symm)
        have hO : va_at D classes (ao, OUT cA g) H1 := kpO hO hkk (fun _ ⟨n9, h9, e9⟩ => hao n9 h9 e9.symm)
        obtain ⟨q1, rfl, hq1, cn2, x2, dn2, hC2, hP⟩ := hq
        refine W.eq (g2 := F0 m 915 ls [.int (bi q1)]) rfl ?_
        refine lv_aload_n hx hb d_Law_law_915 rfl (lv_at hl 2 rfl) ?_
        refine lv_aload_n hx hb d_Law_law_916 rfl (lv_at hl 0 rfl) ?_
        refine lv_iload hx hb d_Law_law_917 (lv_at hl 4 rfl) ?_
        refine lv_iconst (v := 1) hx hb d_Law_law_919 (by decide) ?_
        refine x_add hx hb d_Law_law_920 h4 kc_1 (by omega) (fun z_1552 tz_1552 => ?_)
        refine w_sld hx hb hX hbl hbA hS (i + 1) tz_1552 (by omega) (by omega) d_Law_law_921 ?_
        refine x_V (As := [.int (xs (i + 1))]) (rest := [.int (bi q1)]) hx hb hml hown hK (k_Mod_satisfied l D cA aM hiM I F nn mm en mk ch hch hWF (xs (i + 1))) t_1045 t_4 t_1042 t_1043 t_1044 yk_Mod_satisfied ⟨Nat.le_of_ble_eq_true rfl, Nat.le_of_ble_eq_true rfl⟩ (m_rec hK hM) hM rfl hl.1 rfl (Nat.le_of_ble_eq_true rfl) d_Law_law_922 hcs hS (fun q ⟨k9, h9, e9⟩ => by rw [e9]; exact hMs k9 h9) (fun r H2 locs hq hkk hS => ?_)
        have hP : va_P D classes (wl (List.range (56 + mm)) adr cn2) H2 := kpW hP hkk (fun n9 h9 _ ⟨k9, hk9, e9⟩ => hdj n9 h9 k9 hk9 e9)
        have hO : va_at D classes (ao, OUT cA g) H2 := kpO hO hkk (fun _ ⟨k9, hk9, e9⟩ => hmo k9 hk9 e9.symm)
        obtain ⟨q2, rfl, hq2, I2, F2, c2, h02, h20, hSm, hM⟩ := hq
        refine W.eq (g2 := F0 m 925 ls [.int (bi q2), .int (bi q1)]) rfl ?_
        refine bb_icmp_eq (tgt := 930) hx hb d_Law_law_925 (by decide) (fun c_1553 => ?_) (fun c_1553 => ?_)
        · exact W_up (Nat.le_succ _) (Nat.le_add_right _ _) (hB _ _ _ (li_mk hWF hSm h20 hM had hi hC2 hP hO hsz hao hdj) hS (lv_sub hl [0, 1, 2, 3, 4] rfl))
        · exact absurd (bb_of (hq2.trans hq1.symm)) c_1553
      have e_sw : ((xs i) &&& (31 : Int32)).toInt = ((xs i) &&& (31 : Int32)).toInt := rfl
      refine lv_tableOut (tgt := 930) hx hb d_Law_law_39 (by rw [e_sw]; omega) (by decide) ?_
      exact W_up (Nat.le_succ _) (Nat.le_add_right _ _) (hB _ _ _ hI hS (lv_sub hl [0, 1, 2, 3, 4] rfl))
