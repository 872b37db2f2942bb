/-! the law: the twenty-eight calls -/
set_option maxRecDepth 100000
set_option maxHeartbeats 800000 in
theorem law_letter {nm : String} {Z : ZC} {b L i xh mh n s : Nat} {xs : Nat → Int} {mad : Nat → Nat} {x : AS} {st : MSt} {G : Gh} (C : CC Z (yLn nm) cL_law 4 (some .boolean) room_1) (hx : ∀ j, i32 (xs j)) (hi : i + 5 ≤ L) (hL : L ≤ 320) (I : LI (zX Z) b L xs xh mh mad x st G) (hn : n + 8784 ≤ 861366) (hs : s + 80578 ≤ 6518152) (K : LK Z b L xs xh mh mad i (n + 8784) (s + 80578)) : WW Z 4 (fun g => g = G) n s 160 [some (.ref b), some (.ref xh), some (.ref mh), some (.int (iI (i : Int)))] [] := by
  obtain ⟨⟨A, dr, rls, rm, fls, fm, cls, cm, h⟩, M0, hM, sb⟩ := I
  have hM0 := hM
  obtain ⟨pa, ra, va, re⟩ := hM0
  refine r_aload_n (pc := 160) C dL_law_160 rfl rfl ?_
  refine r_aload_n (pc := 161) C dL_law_161 rfl rfl ?_
  refine r_iload_n (pc := 162) C dL_law_162 rfl rfl ?_
  refine r_iconstZ (pc := 163) C dL_law_163 ?_
  refine r_iaddZ (pc := 164) C dL_law_164 ?_
  refine r_scr (pc := 165) (j := i + 1) C dL_law_165 (fun g hg => ⟨0, by rw [hg]; exact sb⟩) (by omega) (by omega) hL ?_
  refine r_invV (pc := 166) (ci := 0) 1 C dL_law_166 (xo_letter h (xs (i + 1)) (hx _)) (g2 h.ob) (show vwC[0]? = some (RX0, TX0, 10) from rfl) rfl (lw_V q307 q308 q309 q81 q310) (by decide +kernel) rfl rfl ⟨Nat.le_of_ble_eq_true rfl, Nat.le_of_ble_eq_true rfl⟩ (Nat.le_of_ble_eq_true rfl) ⟨lawr hn (Nat.le_of_ble_eq_true rfl), laws hs (Nat.le_of_ble_eq_true rfl)⟩ (fun v166 G166 h166 => ?_)
  obtain ⟨e1, r1⟩ := h166
  subst e1
  have cp : COMP (zX Z) G166 xh (setpg x (sLetter x.pg (xs (i + 1))).2) := r1.1.comp
  have fr : FR cT G G166 := r1.2.wk (by decide)
  obtain ⟨M1, s1⟩ := LI.comp M0 sb fr
  refine r_aload_n (pc := 169) C dL_law_169 rfl rfl ?_
  refine r_aload_n (pc := 170) C dL_law_170 rfl rfl ?_
  refine r_iload_n (pc := 171) C dL_law_171 rfl rfl ?_
  refine r_iconstZ (pc := 172) C dL_law_172 ?_
  refine r_iaddZ (pc := 173) C dL_law_173 ?_
  refine r_scr (pc := 174) (j := i + 1) C dL_law_174 (fun g hg => ⟨0, by rw [hg]; exact s1⟩) (by omega) (by omega) hL ?_
  refine ww_to (Γ' := MOD mh mad G166 st) (fun g hg => by rw [hg]; exact M1) ?_
  refine r_invV (pc := 175) (ci := 2) 1 C dL_law_175 (mt_letter x.pg (xs (i + 1)) (hx _) pa) (fun g hg => ⟨10, _, hg.1⟩) (show vwC[2]? = some (RX2, TX2, 35) from rfl) rfl (lw_V q1279 q1280 q1281 q92 q1282) (by decide +kernel) rfl rfl ⟨Nat.le_of_ble_eq_true rfl, Nat.le_of_ble_eq_true rfl⟩ (Nat.le_of_ble_eq_true rfl) ⟨lawr2 hn (Nat.le_of_ble_eq_true rfl) rfl, laws2 hs (Nat.le_of_ble_eq_true rfl) rfl⟩ (fun v175 G175 h175 => ?_)
  obtain ⟨st2, N2, e2, r2⟩ := h175
  subst e2
  have mm : MAt st2 (setpg x (sLetter x.pg (xs (i + 1))).2) := MAt.page hM r2.1 r2.2 (by decide)
  refine r_icmp_eq (pc := 178) (tgt := 981) C dL_law_178 (by decide) (fun _ => ?_) (fun e => absurd rfl e)
  exact ww_wide (lawW (Nat.le_of_ble_eq_true rfl) rfl) (lawW (Nat.le_of_ble_eq_true rfl) rfl) (K _ st2 _ (LI.back cp s1 N2 mm))
set_option maxHeartbeats 800000 in
theorem law_blank {nm : String} {Z : ZC} {b L i xh mh n s : Nat} {xs : Nat → Int} {mad : Nat → Nat} {x : AS} {st : MSt} {G : Gh} (C : CC Z (yLn nm) cL_law 4 (some .boolean) room_1) (hx : ∀ j, i32 (xs j)) (hi : i + 5 ≤ L) (hL : L ≤ 320) (I : LI (zX Z) b L xs xh mh mad x st G) (hn : n + 8784 ≤ 861366) (hs : s + 80578 ≤ 6518152) (K : LK Z b L xs xh mh mad i (n + 8784) (s + 80578)) : WW Z 4 (fun g => g = G) n s 183 [some (.ref b), some (.ref xh), some (.ref mh), some (.int (iI (i : Int)))] [] := by
  obtain ⟨⟨A, dr, rls, rm, fls, fm, cls, cm, h⟩, M0, hM, sb⟩ := I
  have hM0 := hM
  obtain ⟨pa, ra, va, re⟩ := hM0
  refine r_aload_n (pc := 183) C dL_law_183 rfl rfl ?_
  refine r_invV (pc := 184) (ci := 0) 0 C dL_law_184 (xo_blank h) (g2 h.ob) (show vwC[0]? = some (RX0, TX0, 10) from rfl) rfl (lw_V q409 q410 q411 q81 q412) (by decide +kernel) rfl rfl ⟨Nat.le_of_ble_eq_true rfl, Nat.le_of_ble_eq_true rfl⟩ (Nat.le_of_ble_eq_true rfl) ⟨lawr hn (Nat.le_of_ble_eq_true rfl), laws hs (Nat.le_of_ble_eq_true rfl)⟩ (fun v184 G184 h184 => ?_)
  obtain ⟨e1, r1⟩ := h184
  subst e1
  have cp : COMP (zX Z) G184 xh (setpg x []) := r1.1.comp
  have fr : FR cT G G184 := r1.2.wk (by decide)
  obtain ⟨M1, s1⟩ := LI.comp M0 sb fr
  refine r_aload_n (pc := 187) C dL_law_187 rfl rfl ?_
  refine ww_to (Γ' := MOD mh mad G184 st) (fun g hg => by rw [hg]; exact M1) ?_
  refine r_invV (pc := 188) (ci := 2) 0 C dL_law_188 (mt_blank x.pg   pa) (fun g hg => ⟨10, _, hg.1⟩) (show vwC[2]? = some (RX2, TX2, 35) from rfl) rfl (lw_V q1288 q1289 q1290 q92 q1291) (by decide +kernel) rfl rfl ⟨Nat.le_of_ble_eq_true rfl, Nat.le_of_ble_eq_true rfl⟩ (Nat.le_of_ble_eq_true rfl) ⟨lawr2 hn (Nat.le_of_ble_eq_true rfl) rfl, laws2 hs (Nat.le_of_ble_eq_true rfl) rfl⟩ (fun v188 G188 h188 => ?_)
  obtain ⟨st2, N2, e2, r2⟩ := h188
  subst e2
  have mm : MAt st2 (setpg x []) := MAt.page hM r2.1 r2.2 (by decide)
  refine r_icmp_eq (pc := 191) (tgt := 981) C dL_law_191 (by decide) (fun _ => ?_) (fun e => absurd rfl e)
  exact ww_wide (lawW (Nat.le_of_ble_eq_true rfl) rfl) (lawW (Nat.le_of_ble_eq_true rfl) rfl) (K _ st2 _ (LI.back cp s1 N2 mm))
set_option maxHeartbeats 800000 in
theorem law_fault {nm : String} {Z : ZC} {b L i xh mh n s : Nat} {xs : Nat → Int} {mad : Nat → Nat} {x : AS} {st : MSt} {G : Gh} (C : CC Z (yLn nm) cL_law 4 (some .boolean) room_1) (hx : ∀ j, i32 (xs j)) (hi : i + 5 ≤ L) (hL : L ≤ 320) (I : LI (zX Z) b L xs xh mh mad x st G) (hn : n + 8784 ≤ 861366) (hs : s + 80578 ≤ 6518152) (K : LK Z b L xs xh mh mad i (n + 8784) (s + 80578)) : WW Z 4 (fun g => g = G) n s 196 [some (.ref b), some (.ref xh), some (.ref mh), some (.int (iI (i : Int)))] [] := by
  obtain ⟨⟨A, dr, rls, rm, fls, fm, cls, cm, h⟩, M0, hM, sb⟩ := I
  have hM0 := hM
  obtain ⟨pa, ra, va, re⟩ := hM0
  refine r_aload_n (pc := 196) C dL_law_196 rfl rfl ?_
  refine r_invV (pc := 197) (ci := 0) 0 C dL_law_197 (xo_fault h) (g2 h.ob) (show vwC[0]? = some (RX0, TX0, 10) from rfl) rfl (lw_V q433 q434 q435 q81 q436) (by decide +kernel) rfl rfl ⟨Nat.le_of_ble_eq_true rfl, Nat.le_of_ble_eq_true rfl⟩ (Nat.le_of_ble_eq_true rfl) ⟨lawr hn (Nat.le_of_ble_eq_true rfl), laws hs (Nat.le_of_ble_eq_true rfl)⟩ (fun v197 G197 h197 => ?_)
  obtain ⟨e1, r1⟩ := h197
  subst e1
  have cp : COMP (zX Z) G197 xh x := (h.fr r1 (by decide)).comp
  have fr : FR cT G G197 := r1.wk (by decide)
  obtain ⟨M1, s1⟩ := LI.comp M0 sb fr
  refine r_aload_n (pc := 200) C dL_law_200 rfl rfl ?_
  refine ww_to (Γ' := MOD mh mad G197 st) (fun g hg => by rw [hg]; exact M1) ?_
  refine r_invV (pc := 201) (ci := 2) 0 C dL_law_201 (mt_fault x.pg   pa) (fun g hg => ⟨10, _, hg.1⟩) (show vwC[2]? = some (RX2, TX2, 35) from rfl) rfl (lw_V q1292 q1293 q1294 q92 q1295) (by decide +kernel) rfl rfl ⟨Nat.le_of_ble_eq_true rfl, Nat.le_of_ble_eq_true rfl⟩ (Nat.le_of_ble_eq_true rfl) ⟨lawr2 hn (Nat.le_of_ble_eq_true rfl) rfl, laws2 hs (Nat.le_of_ble_eq_true rfl) rfl⟩ (fun v201 G201 h201 => ?_)
  obtain ⟨st2, N2, e2, r2⟩ := h201
  subst e2
  have mm : MAt st2 x := MAt.xw hM r2 (by decide)
  refine r_icmp_eq (pc := 204) (tgt := 981) C dL_law_204 (by decide) (fun _ => ?_) (fun e => absurd rfl e)
  exact ww_wide (lawW (Nat.le_of_ble_eq_true rfl) rfl) (lawW (Nat.le_of_ble_eq_true rfl) rfl) (K _ st2 _ (LI.back cp s1 N2 mm))
set_option maxHeartbeats 800000 in
theorem law_word {nm : String} {Z : ZC} {b L i xh mh n s : Nat} {xs : Nat → Int} {mad : Nat → Nat} {x : AS} {st : MSt} {G : Gh} (C : CC Z (yLn nm) cL_law 4 (some .boolean) room_1) (hx : ∀ j, i32 (xs j)) (hi : i + 5 ≤ L) (hL : L ≤ 320) (I : LI (zX Z) b L xs xh mh mad x st G) (hn : n + 8784 ≤ 861366) (hs : s + 80578 ≤ 6518152) (K : LK Z b L xs xh mh mad i (n + 8784) (s + 80578)) : WW Z 4 (fun g => g = G) n s 209 [some (.ref b), some (.ref xh), some (.ref mh), some (.int (iI (i : Int)))] [] := by
  obtain ⟨⟨A, dr, rls, rm, fls, fm, cls, cm, h⟩, M0, hM, sb⟩ := I
  have hM0 := hM
  obtain ⟨pa, ra, va, re⟩ := hM0
  refine r_aload_n (pc := 209) C dL_law_209 rfl rfl ?_
  refine r_invV (pc := 210) (ci := 0) 0 C dL_law_210 (xo_word h) (g2 h.ob) (show vwC[0]? = some (RX0, TX0, 10) from rfl) rfl (lw_V q518 q519 q520 q81 q521) (by decide +kernel) rfl rfl ⟨Nat.le_of_ble_eq_true rfl, Nat.le_of_ble_eq_true rfl⟩ (Nat.le_of_ble_eq_true rfl) ⟨lawr hn (Nat.le_of_ble_eq_true rfl), laws hs (Nat.le_of_ble_eq_true rfl)⟩ (fun v210 G210 h210 => ?_)
  obtain ⟨e1, r1⟩ := h210
  subst e1
  have cp : COMP (zX Z) G210 xh ((sWord x.ws x.pg).2.2.1, (sWord x.ws x.pg).2.1, x.rdn + (sWord x.ws x.pg).2.2.2, x.d) := r1.1
  have fr : FR cT G G210 := r1.2
  obtain ⟨M1, s1⟩ := LI.comp M0 sb fr
  refine r_aload_n (pc := 213) C dL_law_213 rfl rfl ?_
  refine ww_to (Γ' := MOD mh mad G210 st) (fun g hg => by rw [hg]; exact M1) ?_
  refine r_invV (pc := 214) (ci := 2) 0 C dL_law_214 (mt_word x.ws x.pg   ra pa) (fun g hg => ⟨10, _, hg.1⟩) (show vwC[2]? = some (RX2, TX2, 35) from rfl) rfl (lw_V q1304 q1305 q1306 q92 q1307) (by decide +kernel) rfl rfl ⟨Nat.le_of_ble_eq_true rfl, Nat.le_of_ble_eq_true rfl⟩ (Nat.le_of_ble_eq_true rfl) ⟨lawr2 hn (Nat.le_of_ble_eq_true rfl) rfl, laws2 hs (Nat.le_of_ble_eq_true rfl) rfl⟩ (fun v214 G214 h214 => ?_)
  obtain ⟨st2, N2, e2, r2⟩ := h214
  subst e2
  have mm : MAt st2 ((sWord x.ws x.pg).2.2.1, (sWord x.ws x.pg).2.1, x.rdn + (sWord x.ws x.pg).2.2.2, x.d) := ⟨r2.2.1, r2.1, va.x r2.2.2.2 (by decide), (by rw [r2.2.2.1, re]; rfl)⟩
  refine r_icmp_eq (pc := 217) (tgt := 981) C dL_law_217 (by decide) (fun _ => ?_) (fun e => absurd rfl e)
  exact ww_wide (lawW (Nat.le_of_ble_eq_true rfl) rfl) (lawW (Nat.le_of_ble_eq_true rfl) rfl) (K _ st2 _ (LI.back cp s1 N2 mm))
set_option maxHeartbeats 800000 in
theorem law_road {nm : String} {Z : ZC} {b L i xh mh n s : Nat} {xs : Nat → Int} {mad : Nat → Nat} {x : AS} {st : MSt} {G : Gh} (C : CC Z (yLn nm) cL_law 4 (some .boolean) room_1) (hx : ∀ j, i32 (xs j)) (hi : i + 5 ≤ L) (hL : L ≤ 320) (I : LI (zX Z) b L xs xh mh mad x st G) (hn : n + 8784 ≤ 861366) (hs : s + 80578 ≤ 6518152) (K : LK Z b L xs xh mh mad i (n + 8784) (s + 80578)) : WW Z 4 (fun g => g = G) n s 222 [some (.ref b), some (.ref xh), some (.ref mh), some (.int (iI (i : Int)))] [] := by
  obtain ⟨⟨A, dr, rls, rm, fls, fm, cls, cm, h⟩, M0, hM, sb⟩ := I
  have hM0 := hM
  obtain ⟨pa, ra, va, re⟩ := hM0
  refine r_aload_n (pc := 222) C dL_law_222 rfl rfl ?_
  refine r_aload_n (pc := 223) C dL_law_223 rfl rfl ?_
  refine r_iload_n (pc := 224) C dL_law_224 rfl rfl ?_
  refine r_iconstZ (pc := 225) C dL_law_225 ?_
  refine r_iaddZ (pc := 226) C dL_law_226 ?_
  refine r_scr (pc := 227) (j := i + 1) C dL_law_227 (fun g hg => ⟨0, by rw [hg]; exact sb⟩) (by omega) (by omega) hL ?_
  refine r_aload_n (pc := 228) C dL_law_228 rfl rfl ?_
  refine r_iload_n (pc := 229) C dL_law_229 rfl rfl ?_
  refine r_iconstZ (pc := 230) C dL_law_230 ?_
  refine r_iaddZ (pc := 231) C dL_law_231 ?_
  refine r_scr (pc := 232) (j := i + 2) C dL_law_232 (fun g hg => ⟨0, by rw [hg]; exact sb⟩) (by omega) (by omega) hL ?_
  refine r_invV (pc := 233) (ci := 0) 2 C dL_law_233 (xo_road h (xs (i + 1)) (xs (i + 2)) (hx _) (hx _)) (g2 h.ob) (show vwC[0]? = some (RX0, TX0, 10) from rfl) rfl (lw_V q661 q662 q663 q81 q664) (by decide +kernel) rfl rfl ⟨Nat.le_of_ble_eq_true rfl, Nat.le_of_ble_eq_true rfl⟩ (Nat.le_of_ble_eq_true rfl) ⟨lawr hn (Nat.le_of_ble_eq_true rfl), laws hs (Nat.le_of_ble_eq_true rfl)⟩ (fun v233 G233 h233 => ?_)
  obtain ⟨e1, r1⟩ := h233
  subst e1
  have cp : COMP (zX Z) G233 xh x := (h.fr r1 (by decide)).comp
  have fr : FR cT G G233 := r1.wk (by decide)
  obtain ⟨M1, s1⟩ := LI.comp M0 sb fr
  refine r_aload_n (pc := 236) C dL_law_236 rfl rfl ?_
  refine r_aload_n (pc := 237) C dL_law_237 rfl rfl ?_
  refine r_iload_n (pc := 238) C dL_law_238 rfl rfl ?_
  refine r_iconstZ (pc := 239) C dL_law_239 ?_
  refine r_iaddZ (pc := 240) C dL_law_240 ?_
  refine r_scr (pc := 241) (j := i + 1) C dL_law_241 (fun g hg => ⟨0, by rw [hg]; exact s1⟩) (by omega) (by omega) hL ?_
  refine r_aload_n (pc := 242) C dL_law_242 rfl rfl ?_
  refine r_iload_n (pc := 243) C dL_law_243 rfl rfl ?_
  refine r_iconstZ (pc := 244) C dL_law_244 ?_
  refine r_iaddZ (pc := 245) C dL_law_245 ?_
  refine r_scr (pc := 246) (j := i + 2) C dL_law_246 (fun g hg => ⟨0, by rw [hg]; exact s1⟩) (by omega) (by omega) hL ?_
  refine ww_to (Γ' := MOD mh mad G233 st) (fun g hg => by rw [hg]; exact M1) ?_
  refine r_invV (pc := 247) (ci := 2) 2 C dL_law_247 (mt_road x.ws (xs (i + 1)) (xs (i + 2)) (hx _) (hx _) ra) (fun g hg => ⟨10, _, hg.1⟩) (show vwC[2]? = some (RX2, TX2, 35) from rfl) rfl (lw_V q1313 q1314 q1315 q92 q1316) (by decide +kernel) rfl rfl ⟨Nat.le_of_ble_eq_true rfl, Nat.le_of_ble_eq_true rfl⟩ (Nat.le_of_ble_eq_true rfl) ⟨lawr2 hn (Nat.le_of_ble_eq_true rfl) rfl, laws2 hs (Nat.le_of_ble_eq_true rfl) rfl⟩ (fun v247 G247 h247 => ?_)
  obtain ⟨st2, N2, e2, r2⟩ := h247
  subst e2
  have mm : MAt st2 x := MAt.xw hM r2 (by decide)
  refine r_icmp_eq (pc := 250) (tgt := 981) C dL_law_250 (by decide) (fun _ => ?_) (fun e => absurd rfl e)
  exact ww_wide (lawW (Nat.le_of_ble_eq_true rfl) rfl) (lawW (Nat.le_of_ble_eq_true rfl) rfl) (K _ st2 _ (LI.back cp s1 N2 mm))
set_option maxHeartbeats 800000 in
theorem law_sign {nm : String} {Z : ZC} {b L i xh mh n s : Nat} {xs : Nat → Int} {mad : Nat → Nat} {x : AS} {st : MSt} {G : Gh} (C : CC Z (yLn nm) cL_law 4 (some .boolean) room_1) (hx : ∀ j, i32 (xs j)) (hi : i + 5 ≤ L) (hL : L ≤ 320) (I : LI (zX Z) b L xs xh mh mad x st G) (hn : n + 8784 ≤ 861366) (hs : s + 80578 ≤ 6518152) (K : LK Z b L xs xh mh mad i (n + 8784) (s + 80578)) : WW Z 4 (fun g => g = G) n s 255 [some (.ref b), some (.ref xh), some (.ref mh), some (.int (iI (i : Int)))] [] := by
  obtain ⟨⟨A, dr, rls, rm, fls, fm, cls, cm, h⟩, M0, hM, sb⟩ := I
  have hM0 := hM
  obtain ⟨pa, ra, va, re⟩ := hM0
  refine r_aload_n (pc := 255) C dL_law_255 rfl rfl ?_
  refine r_aload_n (pc := 256) C dL_law_256 rfl rfl ?_
  refine r_iload_n (pc := 257) C dL_law_257 rfl rfl ?_
  refine r_iconstZ (pc := 258) C dL_law_258 ?_
  refine r_iaddZ (pc := 259) C dL_law_259 ?_
  refine r_scr (pc := 260) (j := i + 1) C dL_law_260 (fun g hg => ⟨0, by rw [hg]; exact sb⟩) (by omega) (by omega) hL ?_
  refine r_aload_n (pc := 261) C dL_law_261 rfl rfl ?_
  refine r_iload_n (pc := 262) C dL_law_262 rfl rfl ?_
  refine r_iconstZ (pc := 263) C dL_law_263 ?_
  refine r_iaddZ (pc := 264) C dL_law_264 ?_
  refine r_scr (pc := 265) (j := i + 2) C dL_law_265 (fun g hg => ⟨0, by rw [hg]; exact sb⟩) (by omega) (by omega) hL ?_
  refine r_invV (pc := 266) (ci := 0) 2 C dL_law_266 (xo_sign h (xs (i + 1)) (xs (i + 2)) (hx _) (hx _)) (g2 h.ob) (show vwC[0]? = some (RX0, TX0, 10) from rfl) rfl (lw_V q778 q779 q780 q81 q781) (by decide +kernel) rfl rfl ⟨Nat.le_of_ble_eq_true rfl, Nat.le_of_ble_eq_true rfl⟩ (Nat.le_of_ble_eq_true rfl) ⟨lawr hn (Nat.le_of_ble_eq_true rfl), laws hs (Nat.le_of_ble_eq_true rfl)⟩ (fun v266 G266 h266 => ?_)
  obtain ⟨e1, r1⟩ := h266
  subst e1
  have cp : COMP (zX Z) G266 xh x := (by rw [r1]; exact h.comp)
  have fr : FR cT G G266 := (by rw [r1]; exact FR.rf)
  obtain ⟨M1, s1⟩ := LI.comp M0 sb fr
  refine r_aload_n (pc := 269) C dL_law_269 rfl rfl ?_
  refine r_aload_n (pc := 270) C dL_law_270 rfl rfl ?_
  refine r_iload_n (pc := 271) C dL_law_271 rfl rfl ?_
  refine r_iconstZ (pc := 272) C dL_law_272 ?_
  refine r_iaddZ (pc := 273) C dL_law_273 ?_
  refine r_scr (pc := 274) (j := i + 1) C dL_law_274 (fun g hg => ⟨0, by rw [hg]; exact s1⟩) (by omega) (by omega) hL ?_
  refine r_aload_n (pc := 275) C dL_law_275 rfl rfl ?_
  refine r_iload_n (pc := 276) C dL_law_276 rfl rfl ?_
  refine r_iconstZ (pc := 277) C dL_law_277 ?_
  refine r_iaddZ (pc := 278) C dL_law_278 ?_
  refine r_scr (pc := 279) (j := i + 2) C dL_law_279 (fun g hg => ⟨0, by rw [hg]; exact s1⟩) (by omega) (by omega) hL ?_
  refine ww_to (Γ' := MOD mh mad G266 st) (fun g hg => by rw [hg]; exact M1) ?_
  refine r_invV (pc := 280) (ci := 2) 2 C dL_law_280 (mt_sign x.ws (xs (i + 1)) (xs (i + 2)) (hx _) (hx _) ra) (fun g hg => ⟨10, _, hg.1⟩) (show vwC[2]? = some (RX2, TX2, 35) from rfl) rfl (lw_V q1371 q1372 q1373 q92 q1374) (by decide +kernel) rfl rfl ⟨Nat.le_of_ble_eq_true rfl, Nat.le_of_ble_eq_true rfl⟩ (Nat.le_of_ble_eq_true rfl) ⟨lawr2 hn (Nat.le_of_ble_eq_true rfl) rfl, laws2 hs (Nat.le_of_ble_eq_true rfl) rfl⟩ (fun v280 G280 h280 => ?_)
  obtain ⟨st2, N2, e2, r2⟩ := h280
  subst e2
  have mm : MAt st2 x := (by rw [r2]; exact hM)
  refine r_icmp_eq (pc := 283) (tgt := 981) C dL_law_283 (by decide) (fun _ => ?_) (fun e => absurd rfl e)
  exact ww_wide (lawW (Nat.le_of_ble_eq_true rfl) rfl) (lawW (Nat.le_of_ble_eq_true rfl) rfl) (K _ st2 _ (LI.back cp s1 N2 mm))
set_option maxHeartbeats 800000 in
theorem law_table {nm : String} {Z : ZC} {b L i xh mh n s : Nat} {xs : Nat → Int} {mad : Nat → Nat} {x : AS} {st : MSt} {G : Gh} (C : CC Z (yLn nm) cL_law 4 (some .boolean) room_1) (hx : ∀ j, i32 (xs j)) (hi : i + 5 ≤ L) (hL : L ≤ 320) (I : LI (zX Z) b L xs xh mh mad x st G) (hn : n + 8784 ≤ 861366) (hs : s + 80578 ≤ 6518152) (K : LK Z b L xs xh mh mad i (n + 8784) (s + 80578)) : WW Z 4 (fun g => g = G) n s 288 [some (.ref b), some (.ref xh), some (.ref mh), some (.int (iI (i : Int)))] [] := by
  obtain ⟨⟨A, dr, rls, rm, fls, fm, cls, cm, h⟩, M0, hM, sb⟩ := I
  have hM0 := hM
  obtain ⟨pa, ra, va, re⟩ := hM0
  refine r_aload_n (pc := 288) C dL_law_288 rfl rfl ?_
  refine r_aload_n (pc := 289) C dL_law_289 rfl rfl ?_
  refine r_iload_n (pc := 290) C dL_law_290 rfl rfl ?_
  refine r_iconstZ (pc := 291) C dL_law_291 ?_
  refine r_iaddZ (pc := 292) C dL_law_292 ?_
  refine r_scr (pc := 293) (j := i + 1) C dL_law_293 (fun g hg => ⟨0, by rw [hg]; exact sb⟩) (by omega) (by omega) hL ?_
  refine r_aload_n (pc := 294) C dL_law_294 rfl rfl ?_
  refine r_iload_n (pc := 295) C dL_law_295 rfl rfl ?_
  refine r_iconstZ (pc := 296) C dL_law_296 ?_
  refine r_iaddZ (pc := 297) C dL_law_297 ?_
  refine r_scr (pc := 298) (j := i + 2) C dL_law_298 (fun g hg => ⟨0, by rw [hg]; exact sb⟩) (by omega) (by omega) hL ?_
  refine r_invV (pc := 299) (ci := 0) 2 C dL_law_299 (xo_table h (xs (i + 1)) (xs (i + 2)) (hx _) (hx _)) (g2 h.ob) (show vwC[0]? = some (RX0, TX0, 10) from rfl) rfl (lw_V q782 q783 q784 q81 q785) (by decide +kernel) rfl rfl ⟨Nat.le_of_ble_eq_true rfl, Nat.le_of_ble_eq_true rfl⟩ (Nat.le_of_ble_eq_true rfl) ⟨lawr hn (Nat.le_of_ble_eq_true rfl), laws hs (Nat.le_of_ble_eq_true rfl)⟩ (fun v299 G299 h299 => ?_)
  obtain ⟨e1, r1⟩ := h299
  subst e1
  have cp : COMP (zX Z) G299 xh x := (by rw [r1]; exact h.comp)
  have fr : FR cT G G299 := (by rw [r1]; exact FR.rf)
  obtain ⟨M1, s1⟩ := LI.comp M0 sb fr
  refine r_aload_n (pc := 302) C dL_law_302 rfl rfl ?_
  refine r_aload_n (pc := 303) C dL_law_303 rfl rfl ?_
  refine r_iload_n (pc := 304) C dL_law_304 rfl rfl ?_
  refine r_iconstZ (pc := 305) C dL_law_305 ?_
  refine r_iaddZ (pc := 306) C dL_law_306 ?_
  refine r_scr (pc := 307) (j := i + 1) C dL_law_307 (fun g hg => ⟨0, by rw [hg]; exact s1⟩) (by omega) (by omega) hL ?_
  refine r_aload_n (pc := 308) C dL_law_308 rfl rfl ?_
  refine r_iload_n (pc := 309) C dL_law_309 rfl rfl ?_
  refine r_iconstZ (pc := 310) C dL_law_310 ?_
  refine r_iaddZ (pc := 311) C dL_law_311 ?_
  refine r_scr (pc := 312) (j := i + 2) C dL_law_312 (fun g hg => ⟨0, by rw [hg]; exact s1⟩) (by omega) (by omega) hL ?_
  refine ww_to (Γ' := MOD mh mad G299 st) (fun g hg => by rw [hg]; exact M1) ?_
  refine r_invV (pc := 313) (ci := 2) 2 C dL_law_313 (mt_table x.ws (xs (i + 1)) (xs (i + 2)) (hx _) (hx _) ra) (fun g hg => ⟨10, _, hg.1⟩) (show vwC[2]? = some (RX2, TX2, 35) from rfl) rfl (lw_V q1378 q1379 q1380 q92 q1381) (by decide +kernel) rfl rfl ⟨Nat.le_of_ble_eq_true rfl, Nat.le_of_ble_eq_true rfl⟩ (Nat.le_of_ble_eq_true rfl) ⟨lawr2 hn (Nat.le_of_ble_eq_true rfl) rfl, laws2 hs (Nat.le_of_ble_eq_true rfl) rfl⟩ (fun v313 G313 h313 => ?_)
  obtain ⟨st2, N2, e2, r2⟩ := h313
  subst e2
  have mm : MAt st2 x := MAt.xw hM r2 (by decide)
  refine r_icmp_eq (pc := 316) (tgt := 981) C dL_law_316 (by decide) (fun _ => ?_) (fun e => absurd rfl e)
  exact ww_wide (lawW (Nat.le_of_ble_eq_true rfl) rfl) (lawW (Nat.le_of_ble_eq_true rfl) rfl) (K _ st2 _ (LI.back cp s1 N2 mm))
set_option maxHeartbeats 800000 in
theorem law_form {nm : String} {Z : ZC} {b L i xh mh n s : Nat} {xs : Nat → Int} {mad : Nat → Nat} {x : AS} {st : MSt} {G : Gh} (C : CC Z (yLn nm) cL_law 4 (some .boolean) room_1) (hx : ∀ j, i32 (xs j)) (hi : i + 5 ≤ L) (hL : L ≤ 320) (I : LI (zX Z) b L xs xh mh mad x st G) (hn : n + 8784 ≤ 861366) (hs : s + 80578 ≤ 6518152) (K : LK Z b L xs xh mh mad i (n + 8784) (s + 80578)) : WW Z 4 (fun g => g = G) n s 321 [some (.ref b), some (.ref xh), some (.ref mh), some (.int (iI (i : Int)))] [] := by
  obtain ⟨⟨A, dr, rls, rm, fls, fm, cls, cm, h⟩, M0, hM, sb⟩ := I
  have hM0 := hM
  obtain ⟨pa, ra, va, re⟩ := hM0
  refine r_aload_n (pc := 321) C dL_law_321 rfl rfl ?_
  refine r_aload_n (pc := 322) C dL_law_322 rfl rfl ?_
  refine r_iload_n (pc := 323) C dL_law_323 rfl rfl ?_
  refine r_iconstZ (pc := 324) C dL_law_324 ?_
  refine r_iaddZ (pc := 325) C dL_law_325 ?_
  refine r_scr (pc := 326) (j := i + 1) C dL_law_326 (fun g hg => ⟨0, by rw [hg]; exact sb⟩) (by omega) (by omega) hL ?_
  refine r_aload_n (pc := 327) C dL_law_327 rfl rfl ?_
  refine r_iload_n (pc := 328) C dL_law_328 rfl rfl ?_
  refine r_iconstZ (pc := 329) C dL_law_329 ?_
  refine r_iaddZ (pc := 330) C dL_law_330 ?_
  refine r_scr (pc := 331) (j := i + 2) C dL_law_331 (fun g hg => ⟨0, by rw [hg]; exact sb⟩) (by omega) (by omega) hL ?_
  refine r_invV (pc := 332) (ci := 0) 2 C dL_law_332 (xo_form h (xs (i + 1)) (xs (i + 2)) (hx _) (hx _)) (g2 h.ob) (show vwC[0]? = some (RX0, TX0, 10) from rfl) rfl (lw_V q790 q791 q792 q81 q793) (by decide +kernel) rfl rfl ⟨Nat.le_of_ble_eq_true rfl, Nat.le_of_ble_eq_true rfl⟩ (Nat.le_of_ble_eq_true rfl) ⟨lawr hn (Nat.le_of_ble_eq_true rfl), laws hs (Nat.le_of_ble_eq_true rfl)⟩ (fun v332 G332 h332 => ?_)
  obtain ⟨e1, r1⟩ := h332
  subst e1
  have cp : COMP (zX Z) G332 xh x := (h.fr r1 (by decide)).comp
  have fr : FR cT G G332 := r1.wk (by decide)
  obtain ⟨M1, s1⟩ := LI.comp M0 sb fr
  refine r_aload_n (pc := 335) C dL_law_335 rfl rfl ?_
  refine r_aload_n (pc := 336) C dL_law_336 rfl rfl ?_
  refine r_iload_n (pc := 337) C dL_law_337 rfl rfl ?_
  refine r_iconstZ (pc := 338) C dL_law_338 ?_
  refine r_iaddZ (pc := 339) C dL_law_339 ?_
  refine r_scr (pc := 340) (j := i + 1) C dL_law_340 (fun g hg => ⟨0, by rw [hg]; exact s1⟩) (by omega) (by omega) hL ?_
  refine r_aload_n (pc := 341) C dL_law_341 rfl rfl ?_
  refine r_iload_n (pc := 342) C dL_law_342 rfl rfl ?_
  refine r_iconstZ (pc := 343) C dL_law_343 ?_
  refine r_iaddZ (pc := 344) C dL_law_344 ?_
  refine r_scr (pc := 345) (j := i + 2) C dL_law_345 (fun g hg => ⟨0, by rw [hg]; exact s1⟩) (by omega) (by omega) hL ?_
  refine ww_to (Γ' := MOD mh mad G332 st) (fun g hg => by rw [hg]; exact M1) ?_
  refine r_invV (pc := 346) (ci := 2) 2 C dL_law_346 (mt_form x.ws (xs (i + 1)) (xs (i + 2)) (hx _) (hx _) ra) (fun g hg => ⟨10, _, hg.1⟩) (show vwC[2]? = some (RX2, TX2, 35) from rfl) rfl (lw_V q1386 q1387 q1388 q92 q1389) (by decide +kernel) rfl rfl ⟨Nat.le_of_ble_eq_true rfl, Nat.le_of_ble_eq_true rfl⟩ (Nat.le_of_ble_eq_true rfl) ⟨lawr2 hn (Nat.le_of_ble_eq_true rfl) rfl, laws2 hs (Nat.le_of_ble_eq_true rfl) rfl⟩ (fun v346 G346 h346 => ?_)
  obtain ⟨st2, N2, e2, r2⟩ := h346
  subst e2
  have mm : MAt st2 x := MAt.xw hM r2 (by decide)
  refine r_icmp_eq (pc := 349) (tgt := 981) C dL_law_349 (by decide) (fun _ => ?_) (fun e => absurd rfl e)
  exact ww_wide (lawW (Nat.le_of_ble_eq_true rfl) rfl) (lawW (Nat.le_of_ble_eq_true rfl) rfl) (K _ st2 _ (LI.back cp s1 N2 mm))
set_option maxHeartbeats 800000 in
theorem law_end {nm : String} {Z : ZC} {b L i xh mh n s : Nat} {xs : Nat → Int} {mad : Nat → Nat} {x : AS} {st : MSt} {G : Gh} (C : CC Z (yLn nm) cL_law 4 (some .boolean) room_1) (hx : ∀ j, i32 (xs j)) (hi : i + 5 ≤ L) (hL : L ≤ 320) (I : LI (zX Z) b L xs xh mh mad x st G) (hn : n + 8784 ≤ 861366) (hs : s + 80578 ≤ 6518152) (K : LK Z b L xs xh mh mad i (n + 8784) (s + 80578)) : WW Z 4 (fun g => g = G) n s 354 [some (.ref b), some (.ref xh), some (.ref mh), some (.int (iI (i : Int)))] [] := by
  obtain ⟨⟨A, dr, rls, rm, fls, fm, cls, cm, h⟩, M0, hM, sb⟩ := I
  have hM0 := hM
  obtain ⟨pa, ra, va, re⟩ := hM0
  refine r_aload_n (pc := 354) C dL_law_354 rfl rfl ?_
  refine r_aload_n (pc := 355) C dL_law_355 rfl rfl ?_
  refine r_iload_n (pc := 356) C dL_law_356 rfl rfl ?_
  refine r_iconstZ (pc := 357) C dL_law_357 ?_
  refine r_iaddZ (pc := 358) C dL_law_358 ?_
  refine r_scr (pc := 359) (j := i + 1) C dL_law_359 (fun g hg => ⟨0, by rw [hg]; exact sb⟩) (by omega) (by omega) hL ?_
  refine r_aload_n (pc := 360) C dL_law_360 rfl rfl ?_
  refine r_iload_n (pc := 361) C dL_law_361 rfl rfl ?_
  refine r_iconstZ (pc := 362) C dL_law_362 ?_
  refine r_iaddZ (pc := 363) C dL_law_363 ?_
  refine r_scr (pc := 364) (j := i + 2) C dL_law_364 (fun g hg => ⟨0, by rw [hg]; exact sb⟩) (by omega) (by omega) hL ?_
  refine r_invV (pc := 365) (ci := 0) 2 C dL_law_365 (xo_end h (xs (i + 1)) (xs (i + 2)) (hx _) (hx _)) (g2 h.ob) (show vwC[0]? = some (RX0, TX0, 10) from rfl) rfl (lw_V q849 q850 q851 q81 q852) (by decide +kernel) rfl rfl ⟨Nat.le_of_ble_eq_true rfl, Nat.le_of_ble_eq_true rfl⟩ (Nat.le_of_ble_eq_true rfl) ⟨lawr hn (Nat.le_of_ble_eq_true rfl), laws hs (Nat.le_of_ble_eq_true rfl)⟩ (fun v365 G365 h365 => ?_)
  obtain ⟨e1, r1⟩ := h365
  subst e1
  have cp : COMP (zX Z) G365 xh x := (by rw [r1]; exact h.comp)
  have fr : FR cT G G365 := (by rw [r1]; exact FR.rf)
  obtain ⟨M1, s1⟩ := LI.comp M0 sb fr
  refine r_aload_n (pc := 368) C dL_law_368 rfl rfl ?_
  refine r_aload_n (pc := 369) C dL_law_369 rfl rfl ?_
  refine r_iload_n (pc := 370) C dL_law_370 rfl rfl ?_
  refine r_iconstZ (pc := 371) C dL_law_371 ?_
  refine r_iaddZ (pc := 372) C dL_law_372 ?_
  refine r_scr (pc := 373) (j := i + 1) C dL_law_373 (fun g hg => ⟨0, by rw [hg]; exact s1⟩) (by omega) (by omega) hL ?_
  refine r_aload_n (pc := 374) C dL_law_374 rfl rfl ?_
  refine r_iload_n (pc := 375) C dL_law_375 rfl rfl ?_
  refine r_iconstZ (pc := 376) C dL_law_376 ?_
  refine r_iaddZ (pc := 377) C dL_law_377 ?_
  refine r_scr (pc := 378) (j := i + 2) C dL_law_378 (fun g hg => ⟨0, by rw [hg]; exact s1⟩) (by omega) (by omega) hL ?_
  refine ww_to (Γ' := MOD mh mad G365 st) (fun g hg => by rw [hg]; exact M1) ?_
  refine r_invV (pc := 379) (ci := 2) 2 C dL_law_379 (mt_end x.ws (xs (i + 1)) (xs (i + 2)) (hx _) (hx _) ra) (fun g hg => ⟨10, _, hg.1⟩) (show vwC[2]? = some (RX2, TX2, 35) from rfl) rfl (lw_V q1411 q1412 q1413 q92 q1414) (by decide +kernel) rfl rfl ⟨Nat.le_of_ble_eq_true rfl, Nat.le_of_ble_eq_true rfl⟩ (Nat.le_of_ble_eq_true rfl) ⟨lawr2 hn (Nat.le_of_ble_eq_true rfl) rfl, laws2 hs (Nat.le_of_ble_eq_true rfl) rfl⟩ (fun v379 G379 h379 => ?_)
  obtain ⟨st2, N2, e2, r2⟩ := h379
  subst e2
  have mm : MAt st2 x := MAt.xw hM r2 (by decide)
  refine r_icmp_eq (pc := 382) (tgt := 981) C dL_law_382 (by decide) (fun _ => ?_) (fun e => absurd rfl e)
  exact ww_wide (lawW (Nat.le_of_ble_eq_true rfl) rfl) (lawW (Nat.le_of_ble_eq_true rfl) rfl) (K _ st2 _ (LI.back cp s1 N2 mm))
set_option maxHeartbeats 800000 in
theorem law_alike {nm : String} {Z : ZC} {b L i xh mh n s : Nat} {xs : Nat → Int} {mad : Nat → Nat} {x : AS} {st : MSt} {G : Gh} (C : CC Z (yLn nm) cL_law 4 (some .boolean) room_1) (hx : ∀ j, i32 (xs j)) (hi : i + 5 ≤ L) (hL : L ≤ 320) (I : LI (zX Z) b L xs xh mh mad x st G) (hn : n + 8784 ≤ 861366) (hs : s + 80578 ≤ 6518152) (K : LK Z b L xs xh mh mad i (n + 8784) (s + 80578)) : WW Z 4 (fun g => g = G) n s 387 [some (.ref b), some (.ref xh), some (.ref mh), some (.int (iI (i : Int)))] [] := by
  obtain ⟨⟨A, dr, rls, rm, fls, fm, cls, cm, h⟩, M0, hM, sb⟩ := I
  have hM0 := hM
  obtain ⟨pa, ra, va, re⟩ := hM0
  refine r_aload_n (pc := 387) C dL_law_387 rfl rfl ?_
  refine r_aload_n (pc := 388) C dL_law_388 rfl rfl ?_
  refine r_iload_n (pc := 389) C dL_law_389 rfl rfl ?_
  refine r_iconstZ (pc := 390) C dL_law_390 ?_
  refine r_iaddZ (pc := 391) C dL_law_391 ?_
  refine r_scr (pc := 392) (j := i + 1) C dL_law_392 (fun g hg => ⟨0, by rw [hg]; exact sb⟩) (by omega) (by omega) hL ?_
  refine r_aload_n (pc := 393) C dL_law_393 rfl rfl ?_
  refine r_iload_n (pc := 394) C dL_law_394 rfl rfl ?_
  refine r_iconstZ (pc := 395) C dL_law_395 ?_
  refine r_iaddZ (pc := 396) C dL_law_396 ?_
  refine r_scr (pc := 397) (j := i + 2) C dL_law_397 (fun g hg => ⟨0, by rw [hg]; exact sb⟩) (by omega) (by omega) hL ?_
  refine r_invV (pc := 398) (ci := 0) 2 C dL_law_398 (xo_alike h (xs (i + 1)) (xs (i + 2)) (hx _) (hx _)) (g2 h.ob) (show vwC[0]? = some (RX0, TX0, 10) from rfl) rfl (lw_V q856 q857 q858 q81 q859) (by decide +kernel) rfl rfl ⟨Nat.le_of_ble_eq_true rfl, Nat.le_of_ble_eq_true rfl⟩ (Nat.le_of_ble_eq_true rfl) ⟨lawr hn (Nat.le_of_ble_eq_true rfl), laws hs (Nat.le_of_ble_eq_true rfl)⟩ (fun v398 G398 h398 => ?_)
  obtain ⟨e1, r1⟩ := h398
  subst e1
  have cp : COMP (zX Z) G398 xh x := (by rw [r1]; exact h.comp)
  have fr : FR cT G G398 := (by rw [r1]; exact FR.rf)
  obtain ⟨M1, s1⟩ := LI.comp M0 sb fr
  refine r_aload_n (pc := 401) C dL_law_401 rfl rfl ?_
  refine r_aload_n (pc := 402) C dL_law_402 rfl rfl ?_
  refine r_iload_n (pc := 403) C dL_law_403 rfl rfl ?_
  refine r_iconstZ (pc := 404) C dL_law_404 ?_
  refine r_iaddZ (pc := 405) C dL_law_405 ?_
  refine r_scr (pc := 406) (j := i + 1) C dL_law_406 (fun g hg => ⟨0, by rw [hg]; exact s1⟩) (by omega) (by omega) hL ?_
  refine r_aload_n (pc := 407) C dL_law_407 rfl rfl ?_
  refine r_iload_n (pc := 408) C dL_law_408 rfl rfl ?_
  refine r_iconstZ (pc := 409) C dL_law_409 ?_
  refine r_iaddZ (pc := 410) C dL_law_410 ?_
  refine r_scr (pc := 411) (j := i + 2) C dL_law_411 (fun g hg => ⟨0, by rw [hg]; exact s1⟩) (by omega) (by omega) hL ?_
  refine ww_to (Γ' := MOD mh mad G398 st) (fun g hg => by rw [hg]; exact M1) ?_
  refine r_invV (pc := 412) (ci := 2) 2 C dL_law_412 (mt_alike x.ws (xs (i + 1)) (xs (i + 2)) (hx _) (hx _) ra) (fun g hg => ⟨10, _, hg.1⟩) (show vwC[2]? = some (RX2, TX2, 35) from rfl) rfl (lw_V q1419 q1420 q1421 q92 q1422) (by decide +kernel) rfl rfl ⟨Nat.le_of_ble_eq_true rfl, Nat.le_of_ble_eq_true rfl⟩ (Nat.le_of_ble_eq_true rfl) ⟨lawr2 hn (Nat.le_of_ble_eq_true rfl) rfl, laws2 hs (Nat.le_of_ble_eq_true rfl) rfl⟩ (fun v412 G412 h412 => ?_)
  obtain ⟨st2, N2, e2, r2⟩ := h412
  subst e2
  have mm : MAt st2 x := MAt.xw hM r2 (by decide)
  refine r_icmp_eq (pc := 415) (tgt := 981) C dL_law_415 (by decide) (fun _ => ?_) (fun e => absurd rfl e)
  exact ww_wide (lawW (Nat.le_of_ble_eq_true rfl) rfl) (lawW (Nat.le_of_ble_eq_true rfl) rfl) (K _ st2 _ (LI.back cp s1 N2 mm))
set_option maxHeartbeats 800000 in
theorem law_cross {nm : String} {Z : ZC} {b L i xh mh n s : Nat} {xs : Nat → Int} {mad : Nat → Nat} {x : AS} {st : MSt} {G : Gh} (C : CC Z (yLn nm) cL_law 4 (some .boolean) room_1) (hx : ∀ j, i32 (xs j)) (hi : i + 5 ≤ L) (hL : L ≤ 320) (I : LI (zX Z) b L xs xh mh mad x st G) (hn : n + 8784 ≤ 861366) (hs : s + 80578 ≤ 6518152) (K : LK Z b L xs xh mh mad i (n + 8784) (s + 80578)) : WW Z 4 (fun g => g = G) n s 420 [some (.ref b), some (.ref xh), some (.ref mh), some (.int (iI (i : Int)))] [] := by
  obtain ⟨⟨A, dr, rls, rm, fls, fm, cls, cm, h⟩, M0, hM, sb⟩ := I
  have hM0 := hM
  obtain ⟨pa, ra, va, re⟩ := hM0
  refine r_aload_n (pc := 420) C dL_law_420 rfl rfl ?_
  refine r_aload_n (pc := 421) C dL_law_421 rfl rfl ?_
  refine r_iload_n (pc := 422) C dL_law_422 rfl rfl ?_
  refine r_iconstZ (pc := 423) C dL_law_423 ?_
  refine r_iaddZ (pc := 424) C dL_law_424 ?_
  refine r_scr (pc := 425) (j := i + 1) C dL_law_425 (fun g hg => ⟨0, by rw [hg]; exact sb⟩) (by omega) (by omega) hL ?_
  refine r_aload_n (pc := 426) C dL_law_426 rfl rfl ?_
  refine r_iload_n (pc := 427) C dL_law_427 rfl rfl ?_
  refine r_iconstZ (pc := 428) C dL_law_428 ?_
  refine r_iaddZ (pc := 429) C dL_law_429 ?_
  refine r_scr (pc := 430) (j := i + 2) C dL_law_430 (fun g hg => ⟨0, by rw [hg]; exact sb⟩) (by omega) (by omega) hL ?_
  refine r_invV (pc := 431) (ci := 0) 2 C dL_law_431 (xo_cross h (xs (i + 1)) (xs (i + 2)) (hx _) (hx _)) (g2 h.ob) (show vwC[0]? = some (RX0, TX0, 10) from rfl) rfl (lw_V q864 q865 q866 q81 q867) (by decide +kernel) rfl rfl ⟨Nat.le_of_ble_eq_true rfl, Nat.le_of_ble_eq_true rfl⟩ (Nat.le_of_ble_eq_true rfl) ⟨lawr hn (Nat.le_of_ble_eq_true rfl), laws hs (Nat.le_of_ble_eq_true rfl)⟩ (fun v431 G431 h431 => ?_)
  obtain ⟨e1, r1⟩ := h431
  subst e1
  have cp : COMP (zX Z) G431 xh x := (by rw [r1]; exact h.comp)
  have fr : FR cT G G431 := (by rw [r1]; exact FR.rf)
  obtain ⟨M1, s1⟩ := LI.comp M0 sb fr
  refine r_aload_n (pc := 434) C dL_law_434 rfl rfl ?_
  refine r_aload_n (pc := 435) C dL_law_435 rfl rfl ?_
  refine r_iload_n (pc := 436) C dL_law_436 rfl rfl ?_
  refine r_iconstZ (pc := 437) C dL_law_437 ?_
  refine r_iaddZ (pc := 438) C dL_law_438 ?_
  refine r_scr (pc := 439) (j := i + 1) C dL_law_439 (fun g hg => ⟨0, by rw [hg]; exact s1⟩) (by omega) (by omega) hL ?_
  refine r_aload_n (pc := 440) C dL_law_440 rfl rfl ?_
  refine r_iload_n (pc := 441) C dL_law_441 rfl rfl ?_
  refine r_iconstZ (pc := 442) C dL_law_442 ?_
  refine r_iaddZ (pc := 443) C dL_law_443 ?_
  refine r_scr (pc := 444) (j := i + 2) C dL_law_444 (fun g hg => ⟨0, by rw [hg]; exact s1⟩) (by omega) (by omega) hL ?_
  refine ww_to (Γ' := MOD mh mad G431 st) (fun g hg => by rw [hg]; exact M1) ?_
  refine r_invV (pc := 445) (ci := 2) 2 C dL_law_445 (mt_cross x.ws (xs (i + 1)) (xs (i + 2)) (hx _) (hx _) ra) (fun g hg => ⟨10, _, hg.1⟩) (show vwC[2]? = some (RX2, TX2, 35) from rfl) rfl (lw_V q1427 q1428 q1429 q92 q1430) (by decide +kernel) rfl rfl ⟨Nat.le_of_ble_eq_true rfl, Nat.le_of_ble_eq_true rfl⟩ (Nat.le_of_ble_eq_true rfl) ⟨lawr2 hn (Nat.le_of_ble_eq_true rfl) rfl, laws2 hs (Nat.le_of_ble_eq_true rfl) rfl⟩ (fun v445 G445 h445 => ?_)
  obtain ⟨st2, N2, e2, r2⟩ := h445
  subst e2
  have mm : MAt st2 x := MAt.xw hM r2 (by decide)
  refine r_icmp_eq (pc := 448) (tgt := 981) C dL_law_448 (by decide) (fun _ => ?_) (fun e => absurd rfl e)
  exact ww_wide (lawW (Nat.le_of_ble_eq_true rfl) rfl) (lawW (Nat.le_of_ble_eq_true rfl) rfl) (K _ st2 _ (LI.back cp s1 N2 mm))
set_option maxHeartbeats 800000 in
theorem law_turn {nm : String} {Z : ZC} {b L i xh mh n s : Nat} {xs : Nat → Int} {mad : Nat → Nat} {x : AS} {st : MSt} {G : Gh} (C : CC Z (yLn nm) cL_law 4 (some .boolean) room_1) (hx : ∀ j, i32 (xs j)) (hi : i + 5 ≤ L) (hL : L ≤ 320) (I : LI (zX Z) b L xs xh mh mad x st G) (hn : n + 8784 ≤ 861366) (hs : s + 80578 ≤ 6518152) (K : LK Z b L xs xh mh mad i (n + 8784) (s + 80578)) : WW Z 4 (fun g => g = G) n s 453 [some (.ref b), some (.ref xh), some (.ref mh), some (.int (iI (i : Int)))] [] := by
  obtain ⟨⟨A, dr, rls, rm, fls, fm, cls, cm, h⟩, M0, hM, sb⟩ := I
  have hM0 := hM
  obtain ⟨pa, ra, va, re⟩ := hM0
  refine r_aload_n (pc := 453) C dL_law_453 rfl rfl ?_
  refine r_aload_n (pc := 454) C dL_law_454 rfl rfl ?_
  refine r_iload_n (pc := 455) C dL_law_455 rfl rfl ?_
  refine r_iconstZ (pc := 456) C dL_law_456 ?_
  refine r_iaddZ (pc := 457) C dL_law_457 ?_
  refine r_scr (pc := 458) (j := i + 1) C dL_law_458 (fun g hg => ⟨0, by rw [hg]; exact sb⟩) (by omega) (by omega) hL ?_
  refine r_aload_n (pc := 459) C dL_law_459 rfl rfl ?_
  refine r_iload_n (pc := 460) C dL_law_460 rfl rfl ?_
  refine r_iconstZ (pc := 461) C dL_law_461 ?_
  refine r_iaddZ (pc := 462) C dL_law_462 ?_
  refine r_scr (pc := 463) (j := i + 2) C dL_law_463 (fun g hg => ⟨0, by rw [hg]; exact sb⟩) (by omega) (by omega) hL ?_
  refine r_invV (pc := 464) (ci := 0) 2 C dL_law_464 (xo_turn h (xs (i + 1)) (xs (i + 2)) (hx _) (hx _)) (g2 h.ob) (show vwC[0]? = some (RX0, TX0, 10) from rfl) rfl (lw_V q880 q881 q882 q81 q883) (by decide +kernel) rfl rfl ⟨Nat.le_of_ble_eq_true rfl, Nat.le_of_ble_eq_true rfl⟩ (Nat.le_of_ble_eq_true rfl) ⟨lawr hn (Nat.le_of_ble_eq_true rfl), laws hs (Nat.le_of_ble_eq_true rfl)⟩ (fun v464 G464 h464 => ?_)
  obtain ⟨e1, r1⟩ := h464
  subst e1
  have cp : COMP (zX Z) G464 xh (setws x (sTurn x.ws (xs (i + 1)) (xs (i + 2))).2) := r1.1
  have fr : FR cT G G464 := r1.2
  obtain ⟨M1, s1⟩ := LI.comp M0 sb fr
  refine r_aload_n (pc := 467) C dL_law_467 rfl rfl ?_
  refine r_aload_n (pc := 468) C dL_law_468 rfl rfl ?_
  refine r_iload_n (pc := 469) C dL_law_469 rfl rfl ?_
  refine r_iconstZ (pc := 470) C dL_law_470 ?_
  refine r_iaddZ (pc := 471) C dL_law_471 ?_
  refine r_scr (pc := 472) (j := i + 1) C dL_law_472 (fun g hg => ⟨0, by rw [hg]; exact s1⟩) (by omega) (by omega) hL ?_
  refine r_aload_n (pc := 473) C dL_law_473 rfl rfl ?_
  refine r_iload_n (pc := 474) C dL_law_474 rfl rfl ?_
  refine r_iconstZ (pc := 475) C dL_law_475 ?_
  refine r_iaddZ (pc := 476) C dL_law_476 ?_
  refine r_scr (pc := 477) (j := i + 2) C dL_law_477 (fun g hg => ⟨0, by rw [hg]; exact s1⟩) (by omega) (by omega) hL ?_
  refine ww_to (Γ' := MOD mh mad G464 st) (fun g hg => by rw [hg]; exact M1) ?_
  refine r_invV (pc := 478) (ci := 2) 2 C dL_law_478 (mt_turn x.ws (xs (i + 1)) (xs (i + 2)) (hx _) (hx _) ra) (fun g hg => ⟨10, _, hg.1⟩) (show vwC[2]? = some (RX2, TX2, 35) from rfl) rfl (lw_V q1443 q1444 q1445 q92 q1446) (by decide +kernel) rfl rfl ⟨Nat.le_of_ble_eq_true rfl, Nat.le_of_ble_eq_true rfl⟩ (Nat.le_of_ble_eq_true rfl) ⟨lawr2 hn (Nat.le_of_ble_eq_true rfl) rfl, laws2 hs (Nat.le_of_ble_eq_true rfl) rfl⟩ (fun v478 G478 h478 => ?_)
  obtain ⟨st2, N2, e2, r2⟩ := h478
  subst e2
  have mm : MAt st2 (setws x (sTurn x.ws (xs (i + 1)) (xs (i + 2))).2) := MAt.roads hM r2.1 r2.2
  refine r_icmp_eq (pc := 481) (tgt := 981) C dL_law_481 (by decide) (fun _ => ?_) (fun e => absurd rfl e)
  exact ww_wide (lawW (Nat.le_of_ble_eq_true rfl) rfl) (lawW (Nat.le_of_ble_eq_true rfl) rfl) (K _ st2 _ (LI.back cp s1 N2 mm))
set_option maxHeartbeats 800000 in
theorem law_change {nm : String} {Z : ZC} {b L i xh mh n s : Nat} {xs : Nat → Int} {mad : Nat → Nat} {x : AS} {st : MSt} {G : Gh} (C : CC Z (yLn nm) cL_law 4 (some .boolean) room_1) (hx : ∀ j, i32 (xs j)) (hi : i + 5 ≤ L) (hL : L ≤ 320) (I : LI (zX Z) b L xs xh mh mad x st G) (hn : n + 8784 ≤ 861366) (hs : s + 80578 ≤ 6518152) (K : LK Z b L xs xh mh mad i (n + 8784) (s + 80578)) : WW Z 4 (fun g => g = G) n s 486 [some (.ref b), some (.ref xh), some (.ref mh), some (.int (iI (i : Int)))] [] := by
  obtain ⟨⟨A, dr, rls, rm, fls, fm, cls, cm, h⟩, M0, hM, sb⟩ := I
  have hM0 := hM
  obtain ⟨pa, ra, va, re⟩ := hM0
  refine r_aload_n (pc := 486) C dL_law_486 rfl rfl ?_
  refine r_aload_n (pc := 487) C dL_law_487 rfl rfl ?_
  refine r_iload_n (pc := 488) C dL_law_488 rfl rfl ?_
  refine r_iconstZ (pc := 489) C dL_law_489 ?_
  refine r_iaddZ (pc := 490) C dL_law_490 ?_
  refine r_scr (pc := 491) (j := i + 1) C dL_law_491 (fun g hg => ⟨0, by rw [hg]; exact sb⟩) (by omega) (by omega) hL ?_
  refine r_aload_n (pc := 492) C dL_law_492 rfl rfl ?_
  refine r_iload_n (pc := 493) C dL_law_493 rfl rfl ?_
  refine r_iconstZ (pc := 494) C dL_law_494 ?_
  refine r_iaddZ (pc := 495) C dL_law_495 ?_
  refine r_scr (pc := 496) (j := i + 2) C dL_law_496 (fun g hg => ⟨0, by rw [hg]; exact sb⟩) (by omega) (by omega) hL ?_
  refine r_invV (pc := 497) (ci := 0) 2 C dL_law_497 (xo_change h (xs (i + 1)) (xs (i + 2)) (hx _) (hx _)) (g2 h.ob) (show vwC[0]? = some (RX0, TX0, 10) from rfl) rfl (lw_V q886 q887 q888 q81 q889) (by decide +kernel) rfl rfl ⟨Nat.le_of_ble_eq_true rfl, Nat.le_of_ble_eq_true rfl⟩ (Nat.le_of_ble_eq_true rfl) ⟨lawr hn (Nat.le_of_ble_eq_true rfl), laws hs (Nat.le_of_ble_eq_true rfl)⟩ (fun v497 G497 h497 => ?_)
  obtain ⟨e1, r1⟩ := h497
  subst e1
  have cp : COMP (zX Z) G497 xh (setws x (sChange x.ws (xs (i + 1)) (xs (i + 2))).2) := r1.1
  have fr : FR cT G G497 := r1.2
  obtain ⟨M1, s1⟩ := LI.comp M0 sb fr
  refine r_aload_n (pc := 500) C dL_law_500 rfl rfl ?_
  refine r_aload_n (pc := 501) C dL_law_501 rfl rfl ?_
  refine r_iload_n (pc := 502) C dL_law_502 rfl rfl ?_
  refine r_iconstZ (pc := 503) C dL_law_503 ?_
  refine r_iaddZ (pc := 504) C dL_law_504 ?_
  refine r_scr (pc := 505) (j := i + 1) C dL_law_505 (fun g hg => ⟨0, by rw [hg]; exact s1⟩) (by omega) (by omega) hL ?_
  refine r_aload_n (pc := 506) C dL_law_506 rfl rfl ?_
  refine r_iload_n (pc := 507) C dL_law_507 rfl rfl ?_
  refine r_iconstZ (pc := 508) C dL_law_508 ?_
  refine r_iaddZ (pc := 509) C dL_law_509 ?_
  refine r_scr (pc := 510) (j := i + 2) C dL_law_510 (fun g hg => ⟨0, by rw [hg]; exact s1⟩) (by omega) (by omega) hL ?_
  refine ww_to (Γ' := MOD mh mad G497 st) (fun g hg => by rw [hg]; exact M1) ?_
  refine r_invV (pc := 511) (ci := 2) 2 C dL_law_511 (mt_change x.ws (xs (i + 1)) (xs (i + 2)) (hx _) (hx _) ra) (fun g hg => ⟨10, _, hg.1⟩) (show vwC[2]? = some (RX2, TX2, 35) from rfl) rfl (lw_V q1451 q1452 q1453 q92 q1454) (by decide +kernel) rfl rfl ⟨Nat.le_of_ble_eq_true rfl, Nat.le_of_ble_eq_true rfl⟩ (Nat.le_of_ble_eq_true rfl) ⟨lawr2 hn (Nat.le_of_ble_eq_true rfl) rfl, laws2 hs (Nat.le_of_ble_eq_true rfl) rfl⟩ (fun v511 G511 h511 => ?_)
  obtain ⟨st2, N2, e2, r2⟩ := h511
  subst e2
  have mm : MAt st2 (setws x (sChange x.ws (xs (i + 1)) (xs (i + 2))).2) := MAt.roads hM r2.1 r2.2
  refine r_icmp_eq (pc := 514) (tgt := 981) C dL_law_514 (by decide) (fun _ => ?_) (fun e => absurd rfl e)
  exact ww_wide (lawW (Nat.le_of_ble_eq_true rfl) rfl) (lawW (Nat.le_of_ble_eq_true rfl) rfl) (K _ st2 _ (LI.back cp s1 N2 mm))
set_option maxHeartbeats 800000 in
theorem law_join {nm : String} {Z : ZC} {b L i xh mh n s : Nat} {xs : Nat → Int} {mad : Nat → Nat} {x : AS} {st : MSt} {G : Gh} (C : CC Z (yLn nm) cL_law 4 (some .boolean) room_1) (hx : ∀ j, i32 (xs j)) (hi : i + 5 ≤ L) (hL : L ≤ 320) (I : LI (zX Z) b L xs xh mh mad x st G) (hn : n + 8784 ≤ 861366) (hs : s + 80578 ≤ 6518152) (K : LK Z b L xs xh mh mad i (n + 8784) (s + 80578)) : WW Z 4 (fun g => g = G) n s 519 [some (.ref b), some (.ref xh), some (.ref mh), some (.int (iI (i : Int)))] [] := by
  obtain ⟨⟨A, dr, rls, rm, fls, fm, cls, cm, h⟩, M0, hM, sb⟩ := I
  have hM0 := hM
  obtain ⟨pa, ra, va, re⟩ := hM0
  refine r_aload_n (pc := 519) C dL_law_519 rfl rfl ?_
  refine r_aload_n (pc := 520) C dL_law_520 rfl rfl ?_
  refine r_iload_n (pc := 521) C dL_law_521 rfl rfl ?_
  refine r_iconstZ (pc := 522) C dL_law_522 ?_
  refine r_iaddZ (pc := 523) C dL_law_523 ?_
  refine r_scr (pc := 524) (j := i + 1) C dL_law_524 (fun g hg => ⟨0, by rw [hg]; exact sb⟩) (by omega) (by omega) hL ?_
  refine r_aload_n (pc := 525) C dL_law_525 rfl rfl ?_
  refine r_iload_n (pc := 526) C dL_law_526 rfl rfl ?_
  refine r_iconstZ (pc := 527) C dL_law_527 ?_
  refine r_iaddZ (pc := 528) C dL_law_528 ?_
  refine r_scr (pc := 529) (j := i + 2) C dL_law_529 (fun g hg => ⟨0, by rw [hg]; exact sb⟩) (by omega) (by omega) hL ?_
  refine r_invV (pc := 530) (ci := 0) 2 C dL_law_530 (xo_join h (xs (i + 1)) (xs (i + 2)) (hx _) (hx _)) (g2 h.ob) (show vwC[0]? = some (RX0, TX0, 10) from rfl) rfl (lw_V q894 q895 q896 q81 q897) (by decide +kernel) rfl rfl ⟨Nat.le_of_ble_eq_true rfl, Nat.le_of_ble_eq_true rfl⟩ (Nat.le_of_ble_eq_true rfl) ⟨lawr hn (Nat.le_of_ble_eq_true rfl), laws hs (Nat.le_of_ble_eq_true rfl)⟩ (fun v530 G530 h530 => ?_)
  obtain ⟨e1, r1⟩ := h530
  subst e1
  have cp : COMP (zX Z) G530 xh (setws x (sJoin x.ws (xs (i + 1)) (xs (i + 2))).2) := r1.1
  have fr : FR cT G G530 := r1.2
  obtain ⟨M1, s1⟩ := LI.comp M0 sb fr
  refine r_aload_n (pc := 533) C dL_law_533 rfl rfl ?_
  refine r_aload_n (pc := 534) C dL_law_534 rfl rfl ?_
  refine r_iload_n (pc := 535) C dL_law_535 rfl rfl ?_
  refine r_iconstZ (pc := 536) C dL_law_536 ?_
  refine r_iaddZ (pc := 537) C dL_law_537 ?_
  refine r_scr (pc := 538) (j := i + 1) C dL_law_538 (fun g hg => ⟨0, by rw [hg]; exact s1⟩) (by omega) (by omega) hL ?_
  refine r_aload_n (pc := 539) C dL_law_539 rfl rfl ?_
  refine r_iload_n (pc := 540) C dL_law_540 rfl rfl ?_
  refine r_iconstZ (pc := 541) C dL_law_541 ?_
  refine r_iaddZ (pc := 542) C dL_law_542 ?_
  refine r_scr (pc := 543) (j := i + 2) C dL_law_543 (fun g hg => ⟨0, by rw [hg]; exact s1⟩) (by omega) (by omega) hL ?_
  refine ww_to (Γ' := MOD mh mad G530 st) (fun g hg => by rw [hg]; exact M1) ?_
  refine r_invV (pc := 544) (ci := 2) 2 C dL_law_544 (mt_join x.ws (xs (i + 1)) (xs (i + 2)) (hx _) (hx _) ra) (fun g hg => ⟨10, _, hg.1⟩) (show vwC[2]? = some (RX2, TX2, 35) from rfl) rfl (lw_V q1455 q1456 q1457 q92 q1458) (by decide +kernel) rfl rfl ⟨Nat.le_of_ble_eq_true rfl, Nat.le_of_ble_eq_true rfl⟩ (Nat.le_of_ble_eq_true rfl) ⟨lawr2 hn (Nat.le_of_ble_eq_true rfl) rfl, laws2 hs (Nat.le_of_ble_eq_true rfl) rfl⟩ (fun v544 G544 h544 => ?_)
  obtain ⟨st2, N2, e2, r2⟩ := h544
  subst e2
  have mm : MAt st2 (setws x (sJoin x.ws (xs (i + 1)) (xs (i + 2))).2) := MAt.roads hM r2.1 r2.2
  refine r_icmp_eq (pc := 547) (tgt := 981) C dL_law_547 (by decide) (fun _ => ?_) (fun e => absurd rfl e)
  exact ww_wide (lawW (Nat.le_of_ble_eq_true rfl) rfl) (lawW (Nat.le_of_ble_eq_true rfl) rfl) (K _ st2 _ (LI.back cp s1 N2 mm))
set_option maxHeartbeats 800000 in
theorem law_times {nm : String} {Z : ZC} {b L i xh mh n s : Nat} {xs : Nat → Int} {mad : Nat → Nat} {x : AS} {st : MSt} {G : Gh} (C : CC Z (yLn nm) cL_law 4 (some .boolean) room_1) (hx : ∀ j, i32 (xs j)) (hi : i + 5 ≤ L) (hL : L ≤ 320) (I : LI (zX Z) b L xs xh mh mad x st G) (hn : n + 8784 ≤ 861366) (hs : s + 80578 ≤ 6518152) (K : LK Z b L xs xh mh mad i (n + 8784) (s + 80578)) : WW Z 4 (fun g => g = G) n s 552 [some (.ref b), some (.ref xh), some (.ref mh), some (.int (iI (i : Int)))] [] := by
  obtain ⟨⟨A, dr, rls, rm, fls, fm, cls, cm, h⟩, M0, hM, sb⟩ := I
  have hM0 := hM
  obtain ⟨pa, ra, va, re⟩ := hM0
  refine r_aload_n (pc := 552) C dL_law_552 rfl rfl ?_
  refine r_aload_n (pc := 553) C dL_law_553 rfl rfl ?_
  refine r_iload_n (pc := 554) C dL_law_554 rfl rfl ?_
  refine r_iconstZ (pc := 555) C dL_law_555 ?_
  refine r_iaddZ (pc := 556) C dL_law_556 ?_
  refine r_scr (pc := 557) (j := i + 1) C dL_law_557 (fun g hg => ⟨0, by rw [hg]; exact sb⟩) (by omega) (by omega) hL ?_
  refine r_aload_n (pc := 558) C dL_law_558 rfl rfl ?_
  refine r_iload_n (pc := 559) C dL_law_559 rfl rfl ?_
  refine r_iconstZ (pc := 560) C dL_law_560 ?_
  refine r_iaddZ (pc := 561) C dL_law_561 ?_
  refine r_scr (pc := 562) (j := i + 2) C dL_law_562 (fun g hg => ⟨0, by rw [hg]; exact sb⟩) (by omega) (by omega) hL ?_
  refine r_invV (pc := 563) (ci := 0) 2 C dL_law_563 (xo_times h (xs (i + 1)) (xs (i + 2)) (hx _) (hx _)) (g2 h.ob) (show vwC[0]? = some (RX0, TX0, 10) from rfl) rfl (lw_V q940 q941 q942 q81 q943) (by decide +kernel) rfl rfl ⟨Nat.le_of_ble_eq_true rfl, Nat.le_of_ble_eq_true rfl⟩ (Nat.le_of_ble_eq_true rfl) ⟨lawr hn (Nat.le_of_ble_eq_true rfl), laws hs (Nat.le_of_ble_eq_true rfl)⟩ (fun v563 G563 h563 => ?_)
  obtain ⟨e1, r1⟩ := h563
  subst e1
  have cp : COMP (zX Z) G563 xh (setws x (sTimes x.ws (xs (i + 1)) (xs (i + 2))).2) := r1.1
  have fr : FR cT G G563 := r1.2
  obtain ⟨M1, s1⟩ := LI.comp M0 sb fr
  refine r_aload_n (pc := 566) C dL_law_566 rfl rfl ?_
  refine r_aload_n (pc := 567) C dL_law_567 rfl rfl ?_
  refine r_iload_n (pc := 568) C dL_law_568 rfl rfl ?_
  refine r_iconstZ (pc := 569) C dL_law_569 ?_
  refine r_iaddZ (pc := 570) C dL_law_570 ?_
  refine r_scr (pc := 571) (j := i + 1) C dL_law_571 (fun g hg => ⟨0, by rw [hg]; exact s1⟩) (by omega) (by omega) hL ?_
  refine r_aload_n (pc := 572) C dL_law_572 rfl rfl ?_
  refine r_iload_n (pc := 573) C dL_law_573 rfl rfl ?_
  refine r_iconstZ (pc := 574) C dL_law_574 ?_
  refine r_iaddZ (pc := 575) C dL_law_575 ?_
  refine r_scr (pc := 576) (j := i + 2) C dL_law_576 (fun g hg => ⟨0, by rw [hg]; exact s1⟩) (by omega) (by omega) hL ?_
  refine ww_to (Γ' := MOD mh mad G563 st) (fun g hg => by rw [hg]; exact M1) ?_
  refine r_invV (pc := 577) (ci := 2) 2 C dL_law_577 (mt_times x.ws (xs (i + 1)) (xs (i + 2)) (hx _) (hx _) ra) (fun g hg => ⟨10, _, hg.1⟩) (show vwC[2]? = some (RX2, TX2, 35) from rfl) rfl (lw_V q1463 q1464 q1465 q92 q1466) (by decide +kernel) rfl rfl ⟨Nat.le_of_ble_eq_true rfl, Nat.le_of_ble_eq_true rfl⟩ (Nat.le_of_ble_eq_true rfl) ⟨lawr2 hn (Nat.le_of_ble_eq_true rfl) rfl, laws2 hs (Nat.le_of_ble_eq_true rfl) rfl⟩ (fun v577 G577 h577 => ?_)
  obtain ⟨st2, N2, e2, r2⟩ := h577
  subst e2
  have mm : MAt st2 (setws x (sTimes x.ws (xs (i + 1)) (xs (i + 2))).2) := MAt.roads hM r2.1 r2.2
  refine r_icmp_eq (pc := 580) (tgt := 981) C dL_law_580 (by decide) (fun _ => ?_) (fun e => absurd rfl e)
  exact ww_wide (lawW (Nat.le_of_ble_eq_true rfl) rfl) (lawW (Nat.le_of_ble_eq_true rfl) rfl) (K _ st2 _ (LI.back cp s1 N2 mm))
set_option maxHeartbeats 800000 in
theorem law_cut {nm : String} {Z : ZC} {b L i xh mh n s : Nat} {xs : Nat → Int} {mad : Nat → Nat} {x : AS} {st : MSt} {G : Gh} (C : CC Z (yLn nm) cL_law 4 (some .boolean) room_1) (hx : ∀ j, i32 (xs j)) (hi : i + 5 ≤ L) (hL : L ≤ 320) (I : LI (zX Z) b L xs xh mh mad x st G) (hn : n + 8784 ≤ 861366) (hs : s + 80578 ≤ 6518152) (K : LK Z b L xs xh mh mad i (n + 8784) (s + 80578)) : WW Z 4 (fun g => g = G) n s 585 [some (.ref b), some (.ref xh), some (.ref mh), some (.int (iI (i : Int)))] [] := by
  obtain ⟨⟨A, dr, rls, rm, fls, fm, cls, cm, h⟩, M0, hM, sb⟩ := I
  have hM0 := hM
  obtain ⟨pa, ra, va, re⟩ := hM0
  refine r_aload_n (pc := 585) C dL_law_585 rfl rfl ?_
  refine r_aload_n (pc := 586) C dL_law_586 rfl rfl ?_
  refine r_iload_n (pc := 587) C dL_law_587 rfl rfl ?_
  refine r_iconstZ (pc := 588) C dL_law_588 ?_
  refine r_iaddZ (pc := 589) C dL_law_589 ?_
  refine r_scr (pc := 590) (j := i + 1) C dL_law_590 (fun g hg => ⟨0, by rw [hg]; exact sb⟩) (by omega) (by omega) hL ?_
  refine r_aload_n (pc := 591) C dL_law_591 rfl rfl ?_
  refine r_iload_n (pc := 592) C dL_law_592 rfl rfl ?_
  refine r_iconstZ (pc := 593) C dL_law_593 ?_
  refine r_iaddZ (pc := 594) C dL_law_594 ?_
  refine r_scr (pc := 595) (j := i + 2) C dL_law_595 (fun g hg => ⟨0, by rw [hg]; exact sb⟩) (by omega) (by omega) hL ?_
  refine r_invV (pc := 596) (ci := 0) 2 C dL_law_596 (xo_cut h (xs (i + 1)) (xs (i + 2)) (hx _) (hx _)) (g2 h.ob) (show vwC[0]? = some (RX0, TX0, 10) from rfl) rfl (lw_V q959 q960 q961 q81 q962) (by decide +kernel) rfl rfl ⟨Nat.le_of_ble_eq_true rfl, Nat.le_of_ble_eq_true rfl⟩ (Nat.le_of_ble_eq_true rfl) ⟨lawr hn (Nat.le_of_ble_eq_true rfl), laws hs (Nat.le_of_ble_eq_true rfl)⟩ (fun v596 G596 h596 => ?_)
  obtain ⟨e1, r1⟩ := h596
  subst e1
  have cp : COMP (zX Z) G596 xh (setws x (sCut x.ws (xs (i + 1)) (xs (i + 2))).2) := r1.1
  have fr : FR cT G G596 := r1.2
  obtain ⟨M1, s1⟩ := LI.comp M0 sb fr
  refine r_aload_n (pc := 599) C dL_law_599 rfl rfl ?_
  refine r_aload_n (pc := 600) C dL_law_600 rfl rfl ?_
  refine r_iload_n (pc := 601) C dL_law_601 rfl rfl ?_
  refine r_iconstZ (pc := 602) C dL_law_602 ?_
  refine r_iaddZ (pc := 603) C dL_law_603 ?_
  refine r_scr (pc := 604) (j := i + 1) C dL_law_604 (fun g hg => ⟨0, by rw [hg]; exact s1⟩) (by omega) (by omega) hL ?_
  refine r_aload_n (pc := 605) C dL_law_605 rfl rfl ?_
  refine r_iload_n (pc := 606) C dL_law_606 rfl rfl ?_
  refine r_iconstZ (pc := 607) C dL_law_607 ?_
  refine r_iaddZ (pc := 608) C dL_law_608 ?_
  refine r_scr (pc := 609) (j := i + 2) C dL_law_609 (fun g hg => ⟨0, by rw [hg]; exact s1⟩) (by omega) (by omega) hL ?_
  refine ww_to (Γ' := MOD mh mad G596 st) (fun g hg => by rw [hg]; exact M1) ?_
  refine r_invV (pc := 610) (ci := 2) 2 C dL_law_610 (mt_cut x.ws (xs (i + 1)) (xs (i + 2)) (hx _) (hx _) ra) (fun g hg => ⟨10, _, hg.1⟩) (show vwC[2]? = some (RX2, TX2, 35) from rfl) rfl (lw_V q1467 q1468 q1469 q92 q1470) (by decide +kernel) rfl rfl ⟨Nat.le_of_ble_eq_true rfl, Nat.le_of_ble_eq_true rfl⟩ (Nat.le_of_ble_eq_true rfl) ⟨lawr2 hn (Nat.le_of_ble_eq_true rfl) rfl, laws2 hs (Nat.le_of_ble_eq_true rfl) rfl⟩ (fun v610 G610 h610 => ?_)
  obtain ⟨st2, N2, e2, r2⟩ := h610
  subst e2
  have mm : MAt st2 (setws x (sCut x.ws (xs (i + 1)) (xs (i + 2))).2) := MAt.roads hM r2.1 r2.2
  refine r_icmp_eq (pc := 613) (tgt := 981) C dL_law_613 (by decide) (fun _ => ?_) (fun e => absurd rfl e)
  exact ww_wide (lawW (Nat.le_of_ble_eq_true rfl) rfl) (lawW (Nat.le_of_ble_eq_true rfl) rfl) (K _ st2 _ (LI.back cp s1 N2 mm))
set_option maxHeartbeats 800000 in
theorem law_drop {nm : String} {Z : ZC} {b L i xh mh n s : Nat} {xs : Nat → Int} {mad : Nat → Nat} {x : AS} {st : MSt} {G : Gh} (C : CC Z (yLn nm) cL_law 4 (some .boolean) room_1) (hx : ∀ j, i32 (xs j)) (hi : i + 5 ≤ L) (hL : L ≤ 320) (I : LI (zX Z) b L xs xh mh mad x st G) (hn : n + 8784 ≤ 861366) (hs : s + 80578 ≤ 6518152) (K : LK Z b L xs xh mh mad i (n + 8784) (s + 80578)) : WW Z 4 (fun g => g = G) n s 618 [some (.ref b), some (.ref xh), some (.ref mh), some (.int (iI (i : Int)))] [] := by
  obtain ⟨⟨A, dr, rls, rm, fls, fm, cls, cm, h⟩, M0, hM, sb⟩ := I
  have hM0 := hM
  obtain ⟨pa, ra, va, re⟩ := hM0
  refine r_aload_n (pc := 618) C dL_law_618 rfl rfl ?_
  refine r_invV (pc := 619) (ci := 0) 0 C dL_law_619 (xo_drop h) (g2 h.ob) (show vwC[0]? = some (RX0, TX0, 10) from rfl) rfl (lw_V q967 q968 q969 q81 q970) (by decide +kernel) rfl rfl ⟨Nat.le_of_ble_eq_true rfl, Nat.le_of_ble_eq_true rfl⟩ (Nat.le_of_ble_eq_true rfl) ⟨lawr hn (Nat.le_of_ble_eq_true rfl), laws hs (Nat.le_of_ble_eq_true rfl)⟩ (fun v619 G619 h619 => ?_)
  obtain ⟨e1, r1⟩ := h619
  subst e1
  have cp : COMP (zX Z) G619 xh (setws x (sDrop x.ws).2) := r1.1
  have fr : FR cT G G619 := r1.2
  obtain ⟨M1, s1⟩ := LI.comp M0 sb fr
  refine r_aload_n (pc := 622) C dL_law_622 rfl rfl ?_
  refine ww_to (Γ' := MOD mh mad G619 st) (fun g hg => by rw [hg]; exact M1) ?_
  refine r_invV (pc := 623) (ci := 2) 0 C dL_law_623 (mt_drop x.ws   ra) (fun g hg => ⟨10, _, hg.1⟩) (show vwC[2]? = some (RX2, TX2, 35) from rfl) rfl (lw_V q1475 q1476 q1477 q92 q1478) (by decide +kernel) rfl rfl ⟨Nat.le_of_ble_eq_true rfl, Nat.le_of_ble_eq_true rfl⟩ (Nat.le_of_ble_eq_true rfl) ⟨lawr2 hn (Nat.le_of_ble_eq_true rfl) rfl, laws2 hs (Nat.le_of_ble_eq_true rfl) rfl⟩ (fun v623 G623 h623 => ?_)
  obtain ⟨st2, N2, e2, r2⟩ := h623
  subst e2
  have mm : MAt st2 (setws x (sDrop x.ws).2) := MAt.roads hM r2.1 r2.2
  refine r_icmp_eq (pc := 626) (tgt := 981) C dL_law_626 (by decide) (fun _ => ?_) (fun e => absurd rfl e)
  exact ww_wide (lawW (Nat.le_of_ble_eq_true rfl) rfl) (lawW (Nat.le_of_ble_eq_true rfl) rfl) (K _ st2 _ (LI.back cp s1 N2 mm))
set_option maxHeartbeats 800000 in
theorem law_river {nm : String} {Z : ZC} {b L i xh mh n s : Nat} {xs : Nat → Int} {mad : Nat → Nat} {x : AS} {st : MSt} {G : Gh} (C : CC Z (yLn nm) cL_law 4 (some .boolean) room_1) (hx : ∀ j, i32 (xs j)) (hi : i + 5 ≤ L) (hL : L ≤ 320) (I : LI (zX Z) b L xs xh mh mad x st G) (hn : n + 8784 ≤ 861366) (hs : s + 80578 ≤ 6518152) (K : LK Z b L xs xh mh mad i (n + 8784) (s + 80578)) : WW Z 4 (fun g => g = G) n s 631 [some (.ref b), some (.ref xh), some (.ref mh), some (.int (iI (i : Int)))] [] := by
  obtain ⟨⟨A, dr, rls, rm, fls, fm, cls, cm, h⟩, M0, hM, sb⟩ := I
  have hM0 := hM
  obtain ⟨pa, ra, va, re⟩ := hM0
  refine r_aload_n (pc := 631) C dL_law_631 rfl rfl ?_
  refine r_aload_n (pc := 632) C dL_law_632 rfl rfl ?_
  refine r_iload_n (pc := 633) C dL_law_633 rfl rfl ?_
  refine r_iconstZ (pc := 634) C dL_law_634 ?_
  refine r_iaddZ (pc := 635) C dL_law_635 ?_
  refine r_scr (pc := 636) (j := i + 1) C dL_law_636 (fun g hg => ⟨0, by rw [hg]; exact sb⟩) (by omega) (by omega) hL ?_
  refine r_invV (pc := 637) (ci := 0) 1 C dL_law_637 (xo_river h (xs (i + 1)) (hx _)) (g2 h.ob) (show vwC[0]? = some (RX0, TX0, 10) from rfl) rfl (lw_V q984 q985 q986 q81 q987) (by decide +kernel) rfl rfl ⟨Nat.le_of_ble_eq_true rfl, Nat.le_of_ble_eq_true rfl⟩ (Nat.le_of_ble_eq_true rfl) ⟨lawr hn (Nat.le_of_ble_eq_true rfl), laws hs (Nat.le_of_ble_eq_true rfl)⟩ (fun v637 G637 h637 => ?_)
  obtain ⟨e1, r1⟩ := h637
  subst e1
  have cp : COMP (zX Z) G637 xh (setd x (sRiver x.d (xs (i + 1))).2) := r1.1
  have fr : FR cT G G637 := r1.2
  obtain ⟨M1, s1⟩ := LI.comp M0 sb fr
  refine r_aload_n (pc := 640) C dL_law_640 rfl rfl ?_
  refine r_aload_n (pc := 641) C dL_law_641 rfl rfl ?_
  refine r_iload_n (pc := 642) C dL_law_642 rfl rfl ?_
  refine r_iconstZ (pc := 643) C dL_law_643 ?_
  refine r_iaddZ (pc := 644) C dL_law_644 ?_
  refine r_scr (pc := 645) (j := i + 1) C dL_law_645 (fun g hg => ⟨0, by rw [hg]; exact s1⟩) (by omega) (by omega) hL ?_
  refine ww_to (Γ' := MOD mh mad G637 st) (fun g hg => by rw [hg]; exact M1) ?_
  refine r_invV (pc := 646) (ci := 2) 1 C dL_law_646 (mt_river x.d (xs (i + 1)) (hx _) va) (fun g hg => ⟨10, _, hg.1⟩) (show vwC[2]? = some (RX2, TX2, 35) from rfl) rfl (lw_V q1479 q1480 q1481 q92 q1482) (by decide +kernel) rfl rfl ⟨Nat.le_of_ble_eq_true rfl, Nat.le_of_ble_eq_true rfl⟩ (Nat.le_of_ble_eq_true rfl) ⟨lawr2 hn (Nat.le_of_ble_eq_true rfl) rfl, laws2 hs (Nat.le_of_ble_eq_true rfl) rfl⟩ (fun v646 G646 h646 => ?_)
  obtain ⟨st2, N2, e2, r2⟩ := h646
  subst e2
  have mm : MAt st2 (setd x (sRiver x.d (xs (i + 1))).2) := MAt.riv hM r2.1 r2.2
  refine r_icmp_eq (pc := 649) (tgt := 981) C dL_law_649 (by decide) (fun _ => ?_) (fun e => absurd rfl e)
  exact ww_wide (lawW (Nat.le_of_ble_eq_true rfl) rfl) (lawW (Nat.le_of_ble_eq_true rfl) rfl) (K _ st2 _ (LI.back cp s1 N2 mm))
set_option maxHeartbeats 800000 in
theorem law_simple {nm : String} {Z : ZC} {b L i xh mh n s : Nat} {xs : Nat → Int} {mad : Nat → Nat} {x : AS} {st : MSt} {G : Gh} (C : CC Z (yLn nm) cL_law 4 (some .boolean) room_1) (hx : ∀ j, i32 (xs j)) (hi : i + 5 ≤ L) (hL : L ≤ 320) (I : LI (zX Z) b L xs xh mh mad x st G) (hn : n + 8784 ≤ 861366) (hs : s + 80578 ≤ 6518152) (K : LK Z b L xs xh mh mad i (n + 8784) (s + 80578)) : WW Z 4 (fun g => g = G) n s 654 [some (.ref b), some (.ref xh), some (.ref mh), some (.int (iI (i : Int)))] [] := by
  obtain ⟨⟨A, dr, rls, rm, fls, fm, cls, cm, h⟩, M0, hM, sb⟩ := I
  have hM0 := hM
  obtain ⟨pa, ra, va, re⟩ := hM0
  refine r_aload_n (pc := 654) C dL_law_654 rfl rfl ?_
  refine r_aload_n (pc := 655) C dL_law_655 rfl rfl ?_
  refine r_iload_n (pc := 656) C dL_law_656 rfl rfl ?_
  refine r_iconstZ (pc := 657) C dL_law_657 ?_
  refine r_iaddZ (pc := 658) C dL_law_658 ?_
  refine r_scr (pc := 659) (j := i + 1) C dL_law_659 (fun g hg => ⟨0, by rw [hg]; exact sb⟩) (by omega) (by omega) hL ?_
  refine r_aload_n (pc := 660) C dL_law_660 rfl rfl ?_
  refine r_iload_n (pc := 661) C dL_law_661 rfl rfl ?_
  refine r_iconstZ (pc := 662) C dL_law_662 ?_
  refine r_iaddZ (pc := 663) C dL_law_663 ?_
  refine r_scr (pc := 664) (j := i + 2) C dL_law_664 (fun g hg => ⟨0, by rw [hg]; exact sb⟩) (by omega) (by omega) hL ?_
  refine r_invV (pc := 665) (ci := 0) 2 C dL_law_665 (xo_simple h (xs (i + 1)) (xs (i + 2)) (hx _) (hx _)) (g2 h.ob) (show vwC[0]? = some (RX0, TX0, 10) from rfl) rfl (lw_V q1039 q1040 q1041 q81 q1042) (by decide +kernel) rfl rfl ⟨Nat.le_of_ble_eq_true rfl, Nat.le_of_ble_eq_true rfl⟩ (Nat.le_of_ble_eq_true rfl) ⟨lawr hn (Nat.le_of_ble_eq_true rfl), laws hs (Nat.le_of_ble_eq_true rfl)⟩ (fun v665 G665 h665 => ?_)
  obtain ⟨e1, r1⟩ := h665
  subst e1
  have cp : COMP (zX Z) G665 xh x := (by rw [r1]; exact h.comp)
  have fr : FR cT G G665 := (by rw [r1]; exact FR.rf)
  obtain ⟨M1, s1⟩ := LI.comp M0 sb fr
  refine r_aload_n (pc := 668) C dL_law_668 rfl rfl ?_
  refine r_aload_n (pc := 669) C dL_law_669 rfl rfl ?_
  refine r_iload_n (pc := 670) C dL_law_670 rfl rfl ?_
  refine r_iconstZ (pc := 671) C dL_law_671 ?_
  refine r_iaddZ (pc := 672) C dL_law_672 ?_
  refine r_scr (pc := 673) (j := i + 1) C dL_law_673 (fun g hg => ⟨0, by rw [hg]; exact s1⟩) (by omega) (by omega) hL ?_
  refine r_aload_n (pc := 674) C dL_law_674 rfl rfl ?_
  refine r_iload_n (pc := 675) C dL_law_675 rfl rfl ?_
  refine r_iconstZ (pc := 676) C dL_law_676 ?_
  refine r_iaddZ (pc := 677) C dL_law_677 ?_
  refine r_scr (pc := 678) (j := i + 2) C dL_law_678 (fun g hg => ⟨0, by rw [hg]; exact s1⟩) (by omega) (by omega) hL ?_
  refine ww_to (Γ' := MOD mh mad G665 st) (fun g hg => by rw [hg]; exact M1) ?_
  refine r_invV (pc := 679) (ci := 2) 2 C dL_law_679 (mt_simple x.d (xs (i + 1)) (xs (i + 2)) (hx _) (hx _) va) (fun g hg => ⟨10, _, hg.1⟩) (show vwC[2]? = some (RX2, TX2, 35) from rfl) rfl (lw_V q1506 q1507 q1508 q92 q1509) (by decide +kernel) rfl rfl ⟨Nat.le_of_ble_eq_true rfl, Nat.le_of_ble_eq_true rfl⟩ (Nat.le_of_ble_eq_true rfl) ⟨lawr2 hn (Nat.le_of_ble_eq_true rfl) rfl, laws2 hs (Nat.le_of_ble_eq_true rfl) rfl⟩ (fun v679 G679 h679 => ?_)
  obtain ⟨st2, N2, e2, r2⟩ := h679
  subst e2
  have mm : MAt st2 x := (by rw [r2]; exact hM)
  refine r_icmp_eq (pc := 682) (tgt := 981) C dL_law_682 (by decide) (fun _ => ?_) (fun e => absurd rfl e)
  exact ww_wide (lawW (Nat.le_of_ble_eq_true rfl) rfl) (lawW (Nat.le_of_ble_eq_true rfl) rfl) (K _ st2 _ (LI.back cp s1 N2 mm))
set_option maxHeartbeats 800000 in
theorem law_cycle {nm : String} {Z : ZC} {b L i xh mh n s : Nat} {xs : Nat → Int} {mad : Nat → Nat} {x : AS} {st : MSt} {G : Gh} (C : CC Z (yLn nm) cL_law 4 (some .boolean) room_1) (hx : ∀ j, i32 (xs j)) (hi : i + 5 ≤ L) (hL : L ≤ 320) (I : LI (zX Z) b L xs xh mh mad x st G) (hn : n + 8784 ≤ 861366) (hs : s + 80578 ≤ 6518152) (K : LK Z b L xs xh mh mad i (n + 8784) (s + 80578)) : WW Z 4 (fun g => g = G) n s 687 [some (.ref b), some (.ref xh), some (.ref mh), some (.int (iI (i : Int)))] [] := by
  obtain ⟨⟨A, dr, rls, rm, fls, fm, cls, cm, h⟩, M0, hM, sb⟩ := I
  have hM0 := hM
  obtain ⟨pa, ra, va, re⟩ := hM0
  refine r_aload_n (pc := 687) C dL_law_687 rfl rfl ?_
  refine r_aload_n (pc := 688) C dL_law_688 rfl rfl ?_
  refine r_iload_n (pc := 689) C dL_law_689 rfl rfl ?_
  refine r_iconstZ (pc := 690) C dL_law_690 ?_
  refine r_iaddZ (pc := 691) C dL_law_691 ?_
  refine r_scr (pc := 692) (j := i + 1) C dL_law_692 (fun g hg => ⟨0, by rw [hg]; exact sb⟩) (by omega) (by omega) hL ?_
  refine r_aload_n (pc := 693) C dL_law_693 rfl rfl ?_
  refine r_iload_n (pc := 694) C dL_law_694 rfl rfl ?_
  refine r_iconstZ (pc := 695) C dL_law_695 ?_
  refine r_iaddZ (pc := 696) C dL_law_696 ?_
  refine r_scr (pc := 697) (j := i + 2) C dL_law_697 (fun g hg => ⟨0, by rw [hg]; exact sb⟩) (by omega) (by omega) hL ?_
  refine r_invV (pc := 698) (ci := 0) 2 C dL_law_698 (xo_cycle h (xs (i + 1)) (xs (i + 2)) (hx _) (hx _)) (g2 h.ob) (show vwC[0]? = some (RX0, TX0, 10) from rfl) rfl (lw_V q1051 q1052 q1053 q81 q1054) (by decide +kernel) rfl rfl ⟨Nat.le_of_ble_eq_true rfl, Nat.le_of_ble_eq_true rfl⟩ (Nat.le_of_ble_eq_true rfl) ⟨lawr hn (Nat.le_of_ble_eq_true rfl), laws hs (Nat.le_of_ble_eq_true rfl)⟩ (fun v698 G698 h698 => ?_)
  obtain ⟨e1, r1⟩ := h698
  subst e1
  have cp : COMP (zX Z) G698 xh x := (by rw [r1]; exact h.comp)
  have fr : FR cT G G698 := (by rw [r1]; exact FR.rf)
  obtain ⟨M1, s1⟩ := LI.comp M0 sb fr
  refine r_aload_n (pc := 701) C dL_law_701 rfl rfl ?_
  refine r_aload_n (pc := 702) C dL_law_702 rfl rfl ?_
  refine r_iload_n (pc := 703) C dL_law_703 rfl rfl ?_
  refine r_iconstZ (pc := 704) C dL_law_704 ?_
  refine r_iaddZ (pc := 705) C dL_law_705 ?_
  refine r_scr (pc := 706) (j := i + 1) C dL_law_706 (fun g hg => ⟨0, by rw [hg]; exact s1⟩) (by omega) (by omega) hL ?_
  refine r_aload_n (pc := 707) C dL_law_707 rfl rfl ?_
  refine r_iload_n (pc := 708) C dL_law_708 rfl rfl ?_
  refine r_iconstZ (pc := 709) C dL_law_709 ?_
  refine r_iaddZ (pc := 710) C dL_law_710 ?_
  refine r_scr (pc := 711) (j := i + 2) C dL_law_711 (fun g hg => ⟨0, by rw [hg]; exact s1⟩) (by omega) (by omega) hL ?_
  refine ww_to (Γ' := MOD mh mad G698 st) (fun g hg => by rw [hg]; exact M1) ?_
  refine r_invV (pc := 712) (ci := 2) 2 C dL_law_712 (mt_cycle x.d (xs (i + 1)) (xs (i + 2)) (hx _) (hx _) va) (fun g hg => ⟨10, _, hg.1⟩) (show vwC[2]? = some (RX2, TX2, 35) from rfl) rfl (lw_V q1514 q1515 q1516 q92 q1517) (by decide +kernel) rfl rfl ⟨Nat.le_of_ble_eq_true rfl, Nat.le_of_ble_eq_true rfl⟩ (Nat.le_of_ble_eq_true rfl) ⟨lawr2 hn (Nat.le_of_ble_eq_true rfl) rfl, laws2 hs (Nat.le_of_ble_eq_true rfl) rfl⟩ (fun v712 G712 h712 => ?_)
  obtain ⟨st2, N2, e2, r2⟩ := h712
  subst e2
  have mm : MAt st2 x := (by rw [r2]; exact hM)
  refine r_icmp_eq (pc := 715) (tgt := 981) C dL_law_715 (by decide) (fun _ => ?_) (fun e => absurd rfl e)
  exact ww_wide (lawW (Nat.le_of_ble_eq_true rfl) rfl) (lawW (Nat.le_of_ble_eq_true rfl) rfl) (K _ st2 _ (LI.back cp s1 N2 mm))
set_option maxHeartbeats 800000 in
theorem law_step {nm : String} {Z : ZC} {b L i xh mh n s : Nat} {xs : Nat → Int} {mad : Nat → Nat} {x : AS} {st : MSt} {G : Gh} (C : CC Z (yLn nm) cL_law 4 (some .boolean) room_1) (hx : ∀ j, i32 (xs j)) (hi : i + 5 ≤ L) (hL : L ≤ 320) (I : LI (zX Z) b L xs xh mh mad x st G) (hn : n + 8784 ≤ 861366) (hs : s + 80578 ≤ 6518152) (K : LK Z b L xs xh mh mad i (n + 8784) (s + 80578)) : WW Z 4 (fun g => g = G) n s 720 [some (.ref b), some (.ref xh), some (.ref mh), some (.int (iI (i : Int)))] [] := by
  obtain ⟨⟨A, dr, rls, rm, fls, fm, cls, cm, h⟩, M0, hM, sb⟩ := I
  have hM0 := hM
  obtain ⟨pa, ra, va, re⟩ := hM0
  refine r_aload_n (pc := 720) C dL_law_720 rfl rfl ?_
  refine r_aload_n (pc := 721) C dL_law_721 rfl rfl ?_
  refine r_iload_n (pc := 722) C dL_law_722 rfl rfl ?_
  refine r_iconstZ (pc := 723) C dL_law_723 ?_
  refine r_iaddZ (pc := 724) C dL_law_724 ?_
  refine r_scr (pc := 725) (j := i + 1) C dL_law_725 (fun g hg => ⟨0, by rw [hg]; exact sb⟩) (by omega) (by omega) hL ?_
  refine r_aload_n (pc := 726) C dL_law_726 rfl rfl ?_
  refine r_iload_n (pc := 727) C dL_law_727 rfl rfl ?_
  refine r_iconstZ (pc := 728) C dL_law_728 ?_
  refine r_iaddZ (pc := 729) C dL_law_729 ?_
  refine r_scr (pc := 730) (j := i + 2) C dL_law_730 (fun g hg => ⟨0, by rw [hg]; exact sb⟩) (by omega) (by omega) hL ?_
  refine r_invV (pc := 731) (ci := 0) 2 C dL_law_731 (xo_step h (xs (i + 1)) (xs (i + 2)) (hx _) (hx _)) (g2 h.ob) (show vwC[0]? = some (RX0, TX0, 10) from rfl) rfl (lw_V q1063 q1064 q1065 q81 q1066) (by decide +kernel) rfl rfl ⟨Nat.le_of_ble_eq_true rfl, Nat.le_of_ble_eq_true rfl⟩ (Nat.le_of_ble_eq_true rfl) ⟨lawr hn (Nat.le_of_ble_eq_true rfl), laws hs (Nat.le_of_ble_eq_true rfl)⟩ (fun v731 G731 h731 => ?_)
  obtain ⟨e1, r1⟩ := h731
  subst e1
  have cp : COMP (zX Z) G731 xh x := (by rw [r1]; exact h.comp)
  have fr : FR cT G G731 := (by rw [r1]; exact FR.rf)
  obtain ⟨M1, s1⟩ := LI.comp M0 sb fr
  refine r_aload_n (pc := 734) C dL_law_734 rfl rfl ?_
  refine r_aload_n (pc := 735) C dL_law_735 rfl rfl ?_
  refine r_iload_n (pc := 736) C dL_law_736 rfl rfl ?_
  refine r_iconstZ (pc := 737) C dL_law_737 ?_
  refine r_iaddZ (pc := 738) C dL_law_738 ?_
  refine r_scr (pc := 739) (j := i + 1) C dL_law_739 (fun g hg => ⟨0, by rw [hg]; exact s1⟩) (by omega) (by omega) hL ?_
  refine r_aload_n (pc := 740) C dL_law_740 rfl rfl ?_
  refine r_iload_n (pc := 741) C dL_law_741 rfl rfl ?_
  refine r_iconstZ (pc := 742) C dL_law_742 ?_
  refine r_iaddZ (pc := 743) C dL_law_743 ?_
  refine r_scr (pc := 744) (j := i + 2) C dL_law_744 (fun g hg => ⟨0, by rw [hg]; exact s1⟩) (by omega) (by omega) hL ?_
  refine ww_to (Γ' := MOD mh mad G731 st) (fun g hg => by rw [hg]; exact M1) ?_
  refine r_invV (pc := 745) (ci := 2) 2 C dL_law_745 (mt_step x.d (xs (i + 1)) (xs (i + 2)) (hx _) (hx _) va) (fun g hg => ⟨10, _, hg.1⟩) (show vwC[2]? = some (RX2, TX2, 35) from rfl) rfl (lw_V q1534 q1535 q1536 q92 q1537) (by decide +kernel) rfl rfl ⟨Nat.le_of_ble_eq_true rfl, Nat.le_of_ble_eq_true rfl⟩ (Nat.le_of_ble_eq_true rfl) ⟨lawr2 hn (Nat.le_of_ble_eq_true rfl) rfl, laws2 hs (Nat.le_of_ble_eq_true rfl) rfl⟩ (fun v745 G745 h745 => ?_)
  obtain ⟨st2, N2, e2, r2⟩ := h745
  subst e2
  have mm : MAt st2 x := (by rw [r2]; exact hM)
  refine r_icmp_eq (pc := 748) (tgt := 981) C dL_law_748 (by decide) (fun _ => ?_) (fun e => absurd rfl e)
  exact ww_wide (lawW (Nat.le_of_ble_eq_true rfl) rfl) (lawW (Nat.le_of_ble_eq_true rfl) rfl) (K _ st2 _ (LI.back cp s1 N2 mm))
set_option maxHeartbeats 800000 in
theorem law_trace {nm : String} {Z : ZC} {b L i xh mh n s : Nat} {xs : Nat → Int} {mad : Nat → Nat} {x : AS} {st : MSt} {G : Gh} (C : CC Z (yLn nm) cL_law 4 (some .boolean) room_1) (hx : ∀ j, i32 (xs j)) (hi : i + 5 ≤ L) (hL : L ≤ 320) (I : LI (zX Z) b L xs xh mh mad x st G) (hn : n + 8784 ≤ 861366) (hs : s + 80578 ≤ 6518152) (K : LK Z b L xs xh mh mad i (n + 8784) (s + 80578)) : WW Z 4 (fun g => g = G) n s 753 [some (.ref b), some (.ref xh), some (.ref mh), some (.int (iI (i : Int)))] [] := by
  obtain ⟨⟨A, dr, rls, rm, fls, fm, cls, cm, h⟩, M0, hM, sb⟩ := I
  have hM0 := hM
  obtain ⟨pa, ra, va, re⟩ := hM0
  refine r_aload_n (pc := 753) C dL_law_753 rfl rfl ?_
  refine r_aload_n (pc := 754) C dL_law_754 rfl rfl ?_
  refine r_iload_n (pc := 755) C dL_law_755 rfl rfl ?_
  refine r_iconstZ (pc := 756) C dL_law_756 ?_
  refine r_iaddZ (pc := 757) C dL_law_757 ?_
  refine r_scr (pc := 758) (j := i + 1) C dL_law_758 (fun g hg => ⟨0, by rw [hg]; exact sb⟩) (by omega) (by omega) hL ?_
  refine r_aload_n (pc := 759) C dL_law_759 rfl rfl ?_
  refine r_iload_n (pc := 760) C dL_law_760 rfl rfl ?_
  refine r_iconstZ (pc := 761) C dL_law_761 ?_
  refine r_iaddZ (pc := 762) C dL_law_762 ?_
  refine r_scr (pc := 763) (j := i + 2) C dL_law_763 (fun g hg => ⟨0, by rw [hg]; exact sb⟩) (by omega) (by omega) hL ?_
  refine r_invV (pc := 764) (ci := 0) 2 C dL_law_764 (xo_trace h (xs (i + 1)) (xs (i + 2)) (hx _) (hx _)) (g2 h.ob) (show vwC[0]? = some (RX0, TX0, 10) from rfl) rfl (lw_V q1067 q1068 q1069 q81 q1070) (by decide +kernel) rfl rfl ⟨Nat.le_of_ble_eq_true rfl, Nat.le_of_ble_eq_true rfl⟩ (Nat.le_of_ble_eq_true rfl) ⟨lawr hn (Nat.le_of_ble_eq_true rfl), laws hs (Nat.le_of_ble_eq_true rfl)⟩ (fun v764 G764 h764 => ?_)
  obtain ⟨e1, r1⟩ := h764
  subst e1
  have cp : COMP (zX Z) G764 xh x := (by rw [r1]; exact h.comp)
  have fr : FR cT G G764 := (by rw [r1]; exact FR.rf)
  obtain ⟨M1, s1⟩ := LI.comp M0 sb fr
  refine r_aload_n (pc := 767) C dL_law_767 rfl rfl ?_
  refine r_aload_n (pc := 768) C dL_law_768 rfl rfl ?_
  refine r_iload_n (pc := 769) C dL_law_769 rfl rfl ?_
  refine r_iconstZ (pc := 770) C dL_law_770 ?_
  refine r_iaddZ (pc := 771) C dL_law_771 ?_
  refine r_scr (pc := 772) (j := i + 1) C dL_law_772 (fun g hg => ⟨0, by rw [hg]; exact s1⟩) (by omega) (by omega) hL ?_
  refine r_aload_n (pc := 773) C dL_law_773 rfl rfl ?_
  refine r_iload_n (pc := 774) C dL_law_774 rfl rfl ?_
  refine r_iconstZ (pc := 775) C dL_law_775 ?_
  refine r_iaddZ (pc := 776) C dL_law_776 ?_
  refine r_scr (pc := 777) (j := i + 2) C dL_law_777 (fun g hg => ⟨0, by rw [hg]; exact s1⟩) (by omega) (by omega) hL ?_
  refine ww_to (Γ' := MOD mh mad G764 st) (fun g hg => by rw [hg]; exact M1) ?_
  refine r_invV (pc := 778) (ci := 2) 2 C dL_law_778 (mt_trace x.d (xs (i + 1)) (xs (i + 2)) (hx _) (hx _) va) (fun g hg => ⟨10, _, hg.1⟩) (show vwC[2]? = some (RX2, TX2, 35) from rfl) rfl (lw_V q1542 q1543 q1544 q92 q1545) (by decide +kernel) rfl rfl ⟨Nat.le_of_ble_eq_true rfl, Nat.le_of_ble_eq_true rfl⟩ (Nat.le_of_ble_eq_true rfl) ⟨lawr2 hn (Nat.le_of_ble_eq_true rfl) rfl, laws2 hs (Nat.le_of_ble_eq_true rfl) rfl⟩ (fun v778 G778 h778 => ?_)
  obtain ⟨st2, N2, e2, r2⟩ := h778
  subst e2
  have mm : MAt st2 x := (by rw [r2]; exact hM)
  refine r_icmp_eq (pc := 781) (tgt := 981) C dL_law_781 (by decide) (fun _ => ?_) (fun e => absurd rfl e)
  exact ww_wide (lawW (Nat.le_of_ble_eq_true rfl) rfl) (lawW (Nat.le_of_ble_eq_true rfl) rfl) (K _ st2 _ (LI.back cp s1 N2 mm))
set_option maxHeartbeats 800000 in
theorem law_flow_t {nm : String} {Z : ZC} {b L i xh mh n s : Nat} {xs : Nat → Int} {mad : Nat → Nat} {x : AS} {st : MSt} {G : Gh} (C : CC Z (yLn nm) cL_law 4 (some .boolean) room_1) (hx : ∀ j, i32 (xs j)) (hi : i + 5 ≤ L) (hL : L ≤ 320) (I : LI (zX Z) b L xs xh mh mad x st G) (hn : n + 8784 ≤ 861366) (hs : s + 80578 ≤ 6518152) (hz : xs (i + 4) ≠ 0) (K : LK Z b L xs xh mh mad i (n + 8784) (s + 80578)) : WW Z 4 (fun g => g = G) n s 786 [some (.ref b), some (.ref xh), some (.ref mh), some (.int (iI (i : Int)))] [] := by
  obtain ⟨⟨A, dr, rls, rm, fls, fm, cls, cm, h⟩, M0, hM, sb⟩ := I
  have hM0 := hM
  obtain ⟨pa, ra, va, re⟩ := hM0
  refine r_aload_n (pc := 786) C dL_law_786 rfl rfl ?_
  refine r_aload_n (pc := 787) C dL_law_787 rfl rfl ?_
  refine r_iload_n (pc := 788) C dL_law_788 rfl rfl ?_
  refine r_iconstZ (pc := 789) C dL_law_789 ?_
  refine r_iaddZ (pc := 790) C dL_law_790 ?_
  refine r_scr (pc := 791) (j := i + 1) C dL_law_791 (fun g hg => ⟨0, by rw [hg]; exact sb⟩) (by omega) (by omega) hL ?_
  refine r_aload_n (pc := 792) C dL_law_792 rfl rfl ?_
  refine r_iload_n (pc := 793) C dL_law_793 rfl rfl ?_
  refine r_iconstZ (pc := 794) C dL_law_794 ?_
  refine r_iaddZ (pc := 795) C dL_law_795 ?_
  refine r_scr (pc := 796) (j := i + 2) C dL_law_796 (fun g hg => ⟨0, by rw [hg]; exact sb⟩) (by omega) (by omega) hL ?_
  refine r_aload_n (pc := 797) C dL_law_797 rfl rfl ?_
  refine r_iload_n (pc := 798) C dL_law_798 rfl rfl ?_
  refine r_iconstZ (pc := 799) C dL_law_799 ?_
  refine r_iaddZ (pc := 800) C dL_law_800 ?_
  refine r_scr (pc := 801) (j := i + 3) C dL_law_801 (fun g hg => ⟨0, by rw [hg]; exact sb⟩) (by omega) (by omega) hL ?_
  refine r_aload_n (pc := 802) C dL_law_802 rfl rfl ?_
  refine r_iload_n (pc := 803) C dL_law_803 rfl rfl ?_
  refine r_iconstZ (pc := 804) C dL_law_804 ?_
  refine r_iaddZ (pc := 805) C dL_law_805 ?_
  refine r_scr (pc := 806) (j := i + 4) C dL_law_806 (fun g hg => ⟨0, by rw [hg]; exact sb⟩) (by omega) (by omega) hL ?_
  refine r_if_eqZ (pc := 807) (tgt := 814) C dL_law_807 (by decide) (hx _) (fun h807 => absurd h807 (by omega)) (fun h807 => ?_)
  refine r_iconstZ (pc := 810) C dL_law_810 ?_
  refine r_goto (pc := 811) (tgt := 815) C dL_law_811 (by decide) ?_
  refine r_invV (pc := 815) (ci := 0) 4 C dL_law_815 (xo_flow h (xs (i + 1)) (xs (i + 2)) (xs (i + 3)) true (hx _) (hx _) (hx _)) (g2 h.ob) (show vwC[0]? = some (RX0, TX0, 10) from rfl) rfl (lw_V q1074 q1075 q1076 q81 q1077) (by decide +kernel) rfl rfl ⟨Nat.le_of_ble_eq_true rfl, Nat.le_of_ble_eq_true rfl⟩ (Nat.le_of_ble_eq_true rfl) ⟨lawr hn (Nat.le_of_ble_eq_true rfl), laws hs (Nat.le_of_ble_eq_true rfl)⟩ (fun v815 G815 h815 => ?_)
  obtain ⟨e1, r1⟩ := h815
  subst e1
  have cp : COMP (zX Z) G815 xh x := (h.fr r1 (by decide)).comp
  have fr : FR cT G G815 := r1.wk (by decide)
  obtain ⟨M1, s1⟩ := LI.comp M0 sb fr
  refine r_aload_n (pc := 818) C dL_law_818 rfl rfl ?_
  refine r_aload_n (pc := 819) C dL_law_819 rfl rfl ?_
  refine r_iload_n (pc := 820) C dL_law_820 rfl rfl ?_
  refine r_iconstZ (pc := 821) C dL_law_821 ?_
  refine r_iaddZ (pc := 822) C dL_law_822 ?_
  refine r_scr (pc := 823) (j := i + 1) C dL_law_823 (fun g hg => ⟨0, by rw [hg]; exact s1⟩) (by omega) (by omega) hL ?_
  refine r_aload_n (pc := 824) C dL_law_824 rfl rfl ?_
  refine r_iload_n (pc := 825) C dL_law_825 rfl rfl ?_
  refine r_iconstZ (pc := 826) C dL_law_826 ?_
  refine r_iaddZ (pc := 827) C dL_law_827 ?_
  refine r_scr (pc := 828) (j := i + 2) C dL_law_828 (fun g hg => ⟨0, by rw [hg]; exact s1⟩) (by omega) (by omega) hL ?_
  refine r_aload_n (pc := 829) C dL_law_829 rfl rfl ?_
  refine r_iload_n (pc := 830) C dL_law_830 rfl rfl ?_
  refine r_iconstZ (pc := 831) C dL_law_831 ?_
  refine r_iaddZ (pc := 832) C dL_law_832 ?_
  refine r_scr (pc := 833) (j := i + 3) C dL_law_833 (fun g hg => ⟨0, by rw [hg]; exact s1⟩) (by omega) (by omega) hL ?_
  refine r_aload_n (pc := 834) C dL_law_834 rfl rfl ?_
  refine r_iload_n (pc := 835) C dL_law_835 rfl rfl ?_
  refine r_iconstZ (pc := 836) C dL_law_836 ?_
  refine r_iaddZ (pc := 837) C dL_law_837 ?_
  refine r_scr (pc := 838) (j := i + 4) C dL_law_838 (fun g hg => ⟨0, by rw [hg]; exact s1⟩) (by omega) (by omega) hL ?_
  refine r_if_eqZ (pc := 839) (tgt := 846) C dL_law_839 (by decide) (hx _) (fun h839 => absurd h839 (by omega)) (fun h839 => ?_)
  refine r_iconstZ (pc := 842) C dL_law_842 ?_
  refine r_goto (pc := 843) (tgt := 847) C dL_law_843 (by decide) ?_
  refine ww_to (Γ' := MOD mh mad G815 st) (fun g hg => by rw [hg]; exact M1) ?_
  refine r_invV (pc := 847) (ci := 2) 4 C dL_law_847 (mt_flow x.d (xs (i + 1)) (xs (i + 2)) (xs (i + 3)) true (hx _) (hx _) (hx _) va) (fun g hg => ⟨10, _, hg.1⟩) (show vwC[2]? = some (RX2, TX2, 35) from rfl) rfl (lw_V q1550 q1551 q1552 q92 q1553) (by decide +kernel) rfl rfl ⟨Nat.le_of_ble_eq_true rfl, Nat.le_of_ble_eq_true rfl⟩ (Nat.le_of_ble_eq_true rfl) ⟨lawr2 hn (Nat.le_of_ble_eq_true rfl) rfl, laws2 hs (Nat.le_of_ble_eq_true rfl) rfl⟩ (fun v847 G847 h847 => ?_)
  obtain ⟨st2, N2, e2, r2⟩ := h847
  subst e2
  have mm : MAt st2 x := MAt.xw hM r2 (by decide)
  refine r_icmp_eq (pc := 850) (tgt := 981) C dL_law_850 (by decide) (fun _ => ?_) (fun e => absurd rfl e)
  exact ww_wide (lawW (Nat.le_of_ble_eq_true rfl) rfl) (lawW (Nat.le_of_ble_eq_true rfl) rfl) (K _ st2 _ (LI.back cp s1 N2 mm))
set_option maxHeartbeats 800000 in
theorem law_flow_f {nm : String} {Z : ZC} {b L i xh mh n s : Nat} {xs : Nat → Int} {mad : Nat → Nat} {x : AS} {st : MSt} {G : Gh} (C : CC Z (yLn nm) cL_law 4 (some .boolean) room_1) (hx : ∀ j, i32 (xs j)) (hi : i + 5 ≤ L) (hL : L ≤ 320) (I : LI (zX Z) b L xs xh mh mad x st G) (hn : n + 8784 ≤ 861366) (hs : s + 80578 ≤ 6518152) (hz : xs (i + 4) = 0) (K : LK Z b L xs xh mh mad i (n + 8784) (s + 80578)) : WW Z 4 (fun g => g = G) n s 786 [some (.ref b), some (.ref xh), some (.ref mh), some (.int (iI (i : Int)))] [] := by
  obtain ⟨⟨A, dr, rls, rm, fls, fm, cls, cm, h⟩, M0, hM, sb⟩ := I
  have hM0 := hM
  obtain ⟨pa, ra, va, re⟩ := hM0
  refine r_aload_n (pc := 786) C dL_law_786 rfl rfl ?_
  refine r_aload_n (pc := 787) C dL_law_787 rfl rfl ?_
  refine r_iload_n (pc := 788) C dL_law_788 rfl rfl ?_
  refine r_iconstZ (pc := 789) C dL_law_789 ?_
  refine r_iaddZ (pc := 790) C dL_law_790 ?_
  refine r_scr (pc := 791) (j := i + 1) C dL_law_791 (fun g hg => ⟨0, by rw [hg]; exact sb⟩) (by omega) (by omega) hL ?_
  refine r_aload_n (pc := 792) C dL_law_792 rfl rfl ?_
  refine r_iload_n (pc := 793) C dL_law_793 rfl rfl ?_
  refine r_iconstZ (pc := 794) C dL_law_794 ?_
  refine r_iaddZ (pc := 795) C dL_law_795 ?_
  refine r_scr (pc := 796) (j := i + 2) C dL_law_796 (fun g hg => ⟨0, by rw [hg]; exact sb⟩) (by omega) (by omega) hL ?_
  refine r_aload_n (pc := 797) C dL_law_797 rfl rfl ?_
  refine r_iload_n (pc := 798) C dL_law_798 rfl rfl ?_
  refine r_iconstZ (pc := 799) C dL_law_799 ?_
  refine r_iaddZ (pc := 800) C dL_law_800 ?_
  refine r_scr (pc := 801) (j := i + 3) C dL_law_801 (fun g hg => ⟨0, by rw [hg]; exact sb⟩) (by omega) (by omega) hL ?_
  refine r_aload_n (pc := 802) C dL_law_802 rfl rfl ?_
  refine r_iload_n (pc := 803) C dL_law_803 rfl rfl ?_
  refine r_iconstZ (pc := 804) C dL_law_804 ?_
  refine r_iaddZ (pc := 805) C dL_law_805 ?_
  refine r_scr (pc := 806) (j := i + 4) C dL_law_806 (fun g hg => ⟨0, by rw [hg]; exact sb⟩) (by omega) (by omega) hL ?_
  refine r_if_eqZ (pc := 807) (tgt := 814) C dL_law_807 (by decide) (hx _) (fun h807 => ?_) (fun h807 => absurd h807 (by omega))
  refine r_iconstZ (pc := 814) C dL_law_814 ?_
  refine r_invV (pc := 815) (ci := 0) 4 C dL_law_815 (xo_flow h (xs (i + 1)) (xs (i + 2)) (xs (i + 3)) false (hx _) (hx _) (hx _)) (g2 h.ob) (show vwC[0]? = some (RX0, TX0, 10) from rfl) rfl (lw_V q1074 q1075 q1076 q81 q1077) (by decide +kernel) rfl rfl ⟨Nat.le_of_ble_eq_true rfl, Nat.le_of_ble_eq_true rfl⟩ (Nat.le_of_ble_eq_true rfl) ⟨lawr hn (Nat.le_of_ble_eq_true rfl), laws hs (Nat.le_of_ble_eq_true rfl)⟩ (fun v815 G815 h815 => ?_)
  obtain ⟨e1, r1⟩ := h815
  subst e1
  have cp : COMP (zX Z) G815 xh x := (h.fr r1 (by decide)).comp
  have fr : FR cT G G815 := r1.wk (by decide)
  obtain ⟨M1, s1⟩ := LI.comp M0 sb fr
  refine r_aload_n (pc := 818) C dL_law_818 rfl rfl ?_
  refine r_aload_n (pc := 819) C dL_law_819 rfl rfl ?_
  refine r_iload_n (pc := 820) C dL_law_820 rfl rfl ?_
  refine r_iconstZ (pc := 821) C dL_law_821 ?_
  refine r_iaddZ (pc := 822) C dL_law_822 ?_
  refine r_scr (pc := 823) (j := i + 1) C dL_law_823 (fun g hg => ⟨0, by rw [hg]; exact s1⟩) (by omega) (by omega) hL ?_
  refine r_aload_n (pc := 824) C dL_law_824 rfl rfl ?_
  refine r_iload_n (pc := 825) C dL_law_825 rfl rfl ?_
  refine r_iconstZ (pc := 826) C dL_law_826 ?_
  refine r_iaddZ (pc := 827) C dL_law_827 ?_
  refine r_scr (pc := 828) (j := i + 2) C dL_law_828 (fun g hg => ⟨0, by rw [hg]; exact s1⟩) (by omega) (by omega) hL ?_
  refine r_aload_n (pc := 829) C dL_law_829 rfl rfl ?_
  refine r_iload_n (pc := 830) C dL_law_830 rfl rfl ?_
  refine r_iconstZ (pc := 831) C dL_law_831 ?_
  refine r_iaddZ (pc := 832) C dL_law_832 ?_
  refine r_scr (pc := 833) (j := i + 3) C dL_law_833 (fun g hg => ⟨0, by rw [hg]; exact s1⟩) (by omega) (by omega) hL ?_
  refine r_aload_n (pc := 834) C dL_law_834 rfl rfl ?_
  refine r_iload_n (pc := 835) C dL_law_835 rfl rfl ?_
  refine r_iconstZ (pc := 836) C dL_law_836 ?_
  refine r_iaddZ (pc := 837) C dL_law_837 ?_
  refine r_scr (pc := 838) (j := i + 4) C dL_law_838 (fun g hg => ⟨0, by rw [hg]; exact s1⟩) (by omega) (by omega) hL ?_
  refine r_if_eqZ (pc := 839) (tgt := 846) C dL_law_839 (by decide) (hx _) (fun h839 => ?_) (fun h839 => absurd h839 (by omega))
  refine r_iconstZ (pc := 846) C dL_law_846 ?_
  refine ww_to (Γ' := MOD mh mad G815 st) (fun g hg => by rw [hg]; exact M1) ?_
  refine r_invV (pc := 847) (ci := 2) 4 C dL_law_847 (mt_flow x.d (xs (i + 1)) (xs (i + 2)) (xs (i + 3)) false (hx _) (hx _) (hx _) va) (fun g hg => ⟨10, _, hg.1⟩) (show vwC[2]? = some (RX2, TX2, 35) from rfl) rfl (lw_V q1550 q1551 q1552 q92 q1553) (by decide +kernel) rfl rfl ⟨Nat.le_of_ble_eq_true rfl, Nat.le_of_ble_eq_true rfl⟩ (Nat.le_of_ble_eq_true rfl) ⟨lawr2 hn (Nat.le_of_ble_eq_true rfl) rfl, laws2 hs (Nat.le_of_ble_eq_true rfl) rfl⟩ (fun v847 G847 h847 => ?_)
  obtain ⟨st2, N2, e2, r2⟩ := h847
  subst e2
  have mm : MAt st2 x := MAt.xw hM r2 (by decide)
  refine r_icmp_eq (pc := 850) (tgt := 981) C dL_law_850 (by decide) (fun _ => ?_) (fun e => absurd rfl e)
  exact ww_wide (lawW (Nat.le_of_ble_eq_true rfl) rfl) (lawW (Nat.le_of_ble_eq_true rfl) rfl) (K _ st2 _ (LI.back cp s1 N2 mm))
set_option maxHeartbeats 800000 in
theorem law_lay {nm : String} {Z : ZC} {b L i xh mh n s : Nat} {xs : Nat → Int} {mad : Nat → Nat} {x : AS} {st : MSt} {G : Gh} (C : CC Z (yLn nm) cL_law 4 (some .boolean) room_1) (hx : ∀ j, i32 (xs j)) (hi : i + 5 ≤ L) (hL : L ≤ 320) (I : LI (zX Z) b L xs xh mh mad x st G) (hn : n + 8784 ≤ 861366) (hs : s + 80578 ≤ 6518152) (K : LK Z b L xs xh mh mad i (n + 8784) (s + 80578)) : WW Z 4 (fun g => g = G) n s 855 [some (.ref b), some (.ref xh), some (.ref mh), some (.int (iI (i : Int)))] [] := by
  obtain ⟨⟨A, dr, rls, rm, fls, fm, cls, cm, h⟩, M0, hM, sb⟩ := I
  have hM0 := hM
  obtain ⟨pa, ra, va, re⟩ := hM0
  refine r_aload_n (pc := 855) C dL_law_855 rfl rfl ?_
  refine r_aload_n (pc := 856) C dL_law_856 rfl rfl ?_
  refine r_iload_n (pc := 857) C dL_law_857 rfl rfl ?_
  refine r_iconstZ (pc := 858) C dL_law_858 ?_
  refine r_iaddZ (pc := 859) C dL_law_859 ?_
  refine r_scr (pc := 860) (j := i + 1) C dL_law_860 (fun g hg => ⟨0, by rw [hg]; exact sb⟩) (by omega) (by omega) hL ?_
  refine r_invV (pc := 861) (ci := 0) 1 C dL_law_861 (xo_lay h (xs (i + 1)) (hx _)) (g2 h.ob) (show vwC[0]? = some (RX0, TX0, 10) from rfl) rfl (lw_V q1102 q1103 q1104 q81 q1105) (by decide +kernel) rfl rfl ⟨Nat.le_of_ble_eq_true rfl, Nat.le_of_ble_eq_true rfl⟩ (Nat.le_of_ble_eq_true rfl) ⟨lawr hn (Nat.le_of_ble_eq_true rfl), laws hs (Nat.le_of_ble_eq_true rfl)⟩ (fun v861 G861 h861 => ?_)
  obtain ⟨e1, r1⟩ := h861
  subst e1
  have cp : COMP (zX Z) G861 xh (setws x (sLay x.ws x.d (xs (i + 1))).2) := r1.1
  have fr : FR cT G G861 := r1.2
  obtain ⟨M1, s1⟩ := LI.comp M0 sb fr
  refine r_aload_n (pc := 864) C dL_law_864 rfl rfl ?_
  refine r_aload_n (pc := 865) C dL_law_865 rfl rfl ?_
  refine r_iload_n (pc := 866) C dL_law_866 rfl rfl ?_
  refine r_iconstZ (pc := 867) C dL_law_867 ?_
  refine r_iaddZ (pc := 868) C dL_law_868 ?_
  refine r_scr (pc := 869) (j := i + 1) C dL_law_869 (fun g hg => ⟨0, by rw [hg]; exact s1⟩) (by omega) (by omega) hL ?_
  refine ww_to (Γ' := MOD mh mad G861 st) (fun g hg => by rw [hg]; exact M1) ?_
  refine r_invV (pc := 870) (ci := 2) 1 C dL_law_870 (mt_lay x.ws x.d (xs (i + 1)) (hx _) ra va) (fun g hg => ⟨10, _, hg.1⟩) (show vwC[2]? = some (RX2, TX2, 35) from rfl) rfl (lw_V q1566 q1567 q1568 q92 q1569) (by decide +kernel) rfl rfl ⟨Nat.le_of_ble_eq_true rfl, Nat.le_of_ble_eq_true rfl⟩ (Nat.le_of_ble_eq_true rfl) ⟨lawr2 hn (Nat.le_of_ble_eq_true rfl) rfl, laws2 hs (Nat.le_of_ble_eq_true rfl) rfl⟩ (fun v870 G870 h870 => ?_)
  obtain ⟨st2, N2, e2, r2⟩ := h870
  subst e2
  have mm : MAt st2 (setws x (sLay x.ws x.d (xs (i + 1))).2) := MAt.roads hM r2.1 r2.2
  refine r_icmp_eq (pc := 873) (tgt := 981) C dL_law_873 (by decide) (fun _ => ?_) (fun e => absurd rfl e)
  exact ww_wide (lawW (Nat.le_of_ble_eq_true rfl) rfl) (lawW (Nat.le_of_ble_eq_true rfl) rfl) (K _ st2 _ (LI.back cp s1 N2 mm))
set_option maxHeartbeats 800000 in
theorem law_where {nm : String} {Z : ZC} {b L i xh mh n s : Nat} {xs : Nat → Int} {mad : Nat → Nat} {x : AS} {st : MSt} {G : Gh} (C : CC Z (yLn nm) cL_law 4 (some .boolean) room_1) (hx : ∀ j, i32 (xs j)) (hi : i + 5 ≤ L) (hL : L ≤ 320) (I : LI (zX Z) b L xs xh mh mad x st G) (hn : n + 8784 ≤ 861366) (hs : s + 80578 ≤ 6518152) (K : LK Z b L xs xh mh mad i (n + 8784) (s + 80578)) : WW Z 4 (fun g => g = G) n s 878 [some (.ref b), some (.ref xh), some (.ref mh), some (.int (iI (i : Int)))] [] := by
  obtain ⟨⟨A, dr, rls, rm, fls, fm, cls, cm, h⟩, M0, hM, sb⟩ := I
  have hM0 := hM
  obtain ⟨pa, ra, va, re⟩ := hM0
  refine r_aload_n (pc := 878) C dL_law_878 rfl rfl ?_
  refine r_aload_n (pc := 879) C dL_law_879 rfl rfl ?_
  refine r_iload_n (pc := 880) C dL_law_880 rfl rfl ?_
  refine r_iconstZ (pc := 881) C dL_law_881 ?_
  refine r_iaddZ (pc := 882) C dL_law_882 ?_
  refine r_scr (pc := 883) (j := i + 1) C dL_law_883 (fun g hg => ⟨0, by rw [hg]; exact sb⟩) (by omega) (by omega) hL ?_
  refine r_invV (pc := 884) (ci := 0) 1 C dL_law_884 (xo_where h (xs (i + 1)) (hx _)) (g2 h.ob) (show vwC[0]? = some (RX0, TX0, 10) from rfl) rfl (lw_V q1106 q1107 q1108 q81 q1109) (by decide +kernel) rfl rfl ⟨Nat.le_of_ble_eq_true rfl, Nat.le_of_ble_eq_true rfl⟩ (Nat.le_of_ble_eq_true rfl) ⟨lawr hn (Nat.le_of_ble_eq_true rfl), laws hs (Nat.le_of_ble_eq_true rfl)⟩ (fun v884 G884 h884 => ?_)
  obtain ⟨e1, r1⟩ := h884
  subst e1
  have cp : COMP (zX Z) G884 xh x := (h.fr r1 (by decide)).comp
  have fr : FR cT G G884 := r1.wk (by decide)
  obtain ⟨M1, s1⟩ := LI.comp M0 sb fr
  refine r_aload_n (pc := 887) C dL_law_887 rfl rfl ?_
  refine r_aload_n (pc := 888) C dL_law_888 rfl rfl ?_
  refine r_iload_n (pc := 889) C dL_law_889 rfl rfl ?_
  refine r_iconstZ (pc := 890) C dL_law_890 ?_
  refine r_iaddZ (pc := 891) C dL_law_891 ?_
  refine r_scr (pc := 892) (j := i + 1) C dL_law_892 (fun g hg => ⟨0, by rw [hg]; exact s1⟩) (by omega) (by omega) hL ?_
  refine ww_to (Γ' := MOD mh mad G884 st) (fun g hg => by rw [hg]; exact M1) ?_
  refine r_invV (pc := 893) (ci := 2) 1 C dL_law_893 (mt_where x.ws x.d (xs (i + 1)) (hx _) ra va) (fun g hg => ⟨10, _, hg.1⟩) (show vwC[2]? = some (RX2, TX2, 35) from rfl) rfl (lw_V q1570 q1571 q1572 q92 q1573) (by decide +kernel) rfl rfl ⟨Nat.le_of_ble_eq_true rfl, Nat.le_of_ble_eq_true rfl⟩ (Nat.le_of_ble_eq_true rfl) ⟨lawr2 hn (Nat.le_of_ble_eq_true rfl) rfl, laws2 hs (Nat.le_of_ble_eq_true rfl) rfl⟩ (fun v893 G893 h893 => ?_)
  obtain ⟨st2, N2, e2, r2⟩ := h893
  subst e2
  have mm : MAt st2 x := MAt.xw hM r2 (by decide)
  refine r_icmp_eq (pc := 896) (tgt := 981) C dL_law_896 (by decide) (fun _ => ?_) (fun e => absurd rfl e)
  exact ww_wide (lawW (Nat.le_of_ble_eq_true rfl) rfl) (lawW (Nat.le_of_ble_eq_true rfl) rfl) (K _ st2 _ (LI.back cp s1 N2 mm))
set_option maxHeartbeats 800000 in
theorem law_drawn {nm : String} {Z : ZC} {b L i xh mh n s : Nat} {xs : Nat → Int} {mad : Nat → Nat} {x : AS} {st : MSt} {G : Gh} (C : CC Z (yLn nm) cL_law 4 (some .boolean) room_1) (hx : ∀ j, i32 (xs j)) (hi : i + 5 ≤ L) (hL : L ≤ 320) (I : LI (zX Z) b L xs xh mh mad x st G) (hn : n + 8784 ≤ 861366) (hs : s + 80578 ≤ 6518152) (K : LK Z b L xs xh mh mad i (n + 8784) (s + 80578)) : WW Z 4 (fun g => g = G) n s 901 [some (.ref b), some (.ref xh), some (.ref mh), some (.int (iI (i : Int)))] [] := by
  obtain ⟨⟨A, dr, rls, rm, fls, fm, cls, cm, h⟩, M0, hM, sb⟩ := I
  have hM0 := hM
  obtain ⟨pa, ra, va, re⟩ := hM0
  refine r_aload_n (pc := 901) C dL_law_901 rfl rfl ?_
  refine r_aload_n (pc := 902) C dL_law_902 rfl rfl ?_
  refine r_iload_n (pc := 903) C dL_law_903 rfl rfl ?_
  refine r_iconstZ (pc := 904) C dL_law_904 ?_
  refine r_iaddZ (pc := 905) C dL_law_905 ?_
  refine r_scr (pc := 906) (j := i + 1) C dL_law_906 (fun g hg => ⟨0, by rw [hg]; exact sb⟩) (by omega) (by omega) hL ?_
  refine r_aload_n (pc := 907) C dL_law_907 rfl rfl ?_
  refine r_iload_n (pc := 908) C dL_law_908 rfl rfl ?_
  refine r_iconstZ (pc := 909) C dL_law_909 ?_
  refine r_iaddZ (pc := 910) C dL_law_910 ?_
  refine r_scr (pc := 911) (j := i + 2) C dL_law_911 (fun g hg => ⟨0, by rw [hg]; exact sb⟩) (by omega) (by omega) hL ?_
  refine r_aload_n (pc := 912) C dL_law_912 rfl rfl ?_
  refine r_iload_n (pc := 913) C dL_law_913 rfl rfl ?_
  refine r_iconstZ (pc := 914) C dL_law_914 ?_
  refine r_iaddZ (pc := 915) C dL_law_915 ?_
  refine r_scr (pc := 916) (j := i + 3) C dL_law_916 (fun g hg => ⟨0, by rw [hg]; exact sb⟩) (by omega) (by omega) hL ?_
  refine r_invV (pc := 917) (ci := 0) 3 C dL_law_917 (xo_drawn h (xs (i + 1)) (xs (i + 2)) (xs (i + 3)) (hx _) (hx _) (hx _)) (g2 h.ob) (show vwC[0]? = some (RX0, TX0, 10) from rfl) rfl (lw_V q1110 q1111 q1112 q81 q1113) (by decide +kernel) rfl rfl ⟨Nat.le_of_ble_eq_true rfl, Nat.le_of_ble_eq_true rfl⟩ (Nat.le_of_ble_eq_true rfl) ⟨lawr hn (Nat.le_of_ble_eq_true rfl), laws hs (Nat.le_of_ble_eq_true rfl)⟩ (fun v917 G917 h917 => ?_)
  obtain ⟨e1, r1⟩ := h917
  subst e1
  have cp : COMP (zX Z) G917 xh x := r1.1
  have fr : FR cT G G917 := r1.2
  obtain ⟨M1, s1⟩ := LI.comp M0 sb fr
  refine r_aload_n (pc := 920) C dL_law_920 rfl rfl ?_
  refine r_aload_n (pc := 921) C dL_law_921 rfl rfl ?_
  refine r_iload_n (pc := 922) C dL_law_922 rfl rfl ?_
  refine r_iconstZ (pc := 923) C dL_law_923 ?_
  refine r_iaddZ (pc := 924) C dL_law_924 ?_
  refine r_scr (pc := 925) (j := i + 1) C dL_law_925 (fun g hg => ⟨0, by rw [hg]; exact s1⟩) (by omega) (by omega) hL ?_
  refine r_aload_n (pc := 926) C dL_law_926 rfl rfl ?_
  refine r_iload_n (pc := 927) C dL_law_927 rfl rfl ?_
  refine r_iconstZ (pc := 928) C dL_law_928 ?_
  refine r_iaddZ (pc := 929) C dL_law_929 ?_
  refine r_scr (pc := 930) (j := i + 2) C dL_law_930 (fun g hg => ⟨0, by rw [hg]; exact s1⟩) (by omega) (by omega) hL ?_
  refine r_aload_n (pc := 931) C dL_law_931 rfl rfl ?_
  refine r_iload_n (pc := 932) C dL_law_932 rfl rfl ?_
  refine r_iconstZ (pc := 933) C dL_law_933 ?_
  refine r_iaddZ (pc := 934) C dL_law_934 ?_
  refine r_scr (pc := 935) (j := i + 3) C dL_law_935 (fun g hg => ⟨0, by rw [hg]; exact s1⟩) (by omega) (by omega) hL ?_
  refine ww_to (Γ' := MOD mh mad G917 st) (fun g hg => by rw [hg]; exact M1) ?_
  refine r_invV (pc := 936) (ci := 2) 3 C dL_law_936 (mt_drawn  (xs (i + 1)) (xs (i + 2)) (xs (i + 3)) (hx _) (hx _) (hx _) ) (fun g hg => ⟨10, _, hg.1⟩) (show vwC[2]? = some (RX2, TX2, 35) from rfl) rfl (lw_V q1578 q1579 q1580 q92 q1581) (by decide +kernel) rfl rfl ⟨Nat.le_of_ble_eq_true rfl, Nat.le_of_ble_eq_true rfl⟩ (Nat.le_of_ble_eq_true rfl) ⟨lawr2 hn (Nat.le_of_ble_eq_true rfl) rfl, laws2 hs (Nat.le_of_ble_eq_true rfl) rfl⟩ (fun v936 G936 h936 => ?_)
  obtain ⟨st2, N2, e2, r2⟩ := h936
  subst e2
  have mm : MAt st2 x := MAt.xw hM r2 (by decide)
  refine r_icmp_eq (pc := 939) (tgt := 981) C dL_law_939 (by decide) (fun _ => ?_) (fun e => absurd rfl e)
  exact ww_wide (lawW (Nat.le_of_ble_eq_true rfl) rfl) (lawW (Nat.le_of_ble_eq_true rfl) rfl) (K _ st2 _ (LI.back cp s1 N2 mm))
set_option maxHeartbeats 800000 in
theorem law_count {nm : String} {Z : ZC} {b L i xh mh n s : Nat} {xs : Nat → Int} {mad : Nat → Nat} {x : AS} {st : MSt} {G : Gh} (C : CC Z (yLn nm) cL_law 4 (some .boolean) room_1) (hx : ∀ j, i32 (xs j)) (hi : i + 5 ≤ L) (hL : L ≤ 320) (I : LI (zX Z) b L xs xh mh mad x st G) (hn : n + 8784 ≤ 861366) (hs : s + 80578 ≤ 6518152) (K : LK Z b L xs xh mh mad i (n + 8784) (s + 80578)) : WW Z 4 (fun g => g = G) n s 944 [some (.ref b), some (.ref xh), some (.ref mh), some (.int (iI (i : Int)))] [] := by
  obtain ⟨⟨A, dr, rls, rm, fls, fm, cls, cm, h⟩, M0, hM, sb⟩ := I
  have hM0 := hM
  obtain ⟨pa, ra, va, re⟩ := hM0
  refine r_aload_n (pc := 944) C dL_law_944 rfl rfl ?_
  refine r_aload_n (pc := 945) C dL_law_945 rfl rfl ?_
  refine r_iload_n (pc := 946) C dL_law_946 rfl rfl ?_
  refine r_iconstZ (pc := 947) C dL_law_947 ?_
  refine r_iaddZ (pc := 948) C dL_law_948 ?_
  refine r_scr (pc := 949) (j := i + 1) C dL_law_949 (fun g hg => ⟨0, by rw [hg]; exact sb⟩) (by omega) (by omega) hL ?_
  refine r_invV (pc := 950) (ci := 0) 1 C dL_law_950 (xo_count h (xs (i + 1)) (hx _)) (g2 h.ob) (show vwC[0]? = some (RX0, TX0, 10) from rfl) rfl (lw_V q1127 q1128 q1129 q81 q1130) (by decide +kernel) rfl rfl ⟨Nat.le_of_ble_eq_true rfl, Nat.le_of_ble_eq_true rfl⟩ (Nat.le_of_ble_eq_true rfl) ⟨lawr hn (Nat.le_of_ble_eq_true rfl), laws hs (Nat.le_of_ble_eq_true rfl)⟩ (fun v950 G950 h950 => ?_)
  obtain ⟨e1, r1⟩ := h950
  subst e1
  have cp : COMP (zX Z) G950 xh x := (h.fr r1 (by decide)).comp
  have fr : FR cT G G950 := r1.wk (by decide)
  obtain ⟨M1, s1⟩ := LI.comp M0 sb fr
  refine r_aload_n (pc := 953) C dL_law_953 rfl rfl ?_
  refine r_aload_n (pc := 954) C dL_law_954 rfl rfl ?_
  refine r_iload_n (pc := 955) C dL_law_955 rfl rfl ?_
  refine r_iconstZ (pc := 956) C dL_law_956 ?_
  refine r_iaddZ (pc := 957) C dL_law_957 ?_
  refine r_scr (pc := 958) (j := i + 1) C dL_law_958 (fun g hg => ⟨0, by rw [hg]; exact s1⟩) (by omega) (by omega) hL ?_
  refine ww_to (Γ' := MOD mh mad G950 st) (fun g hg => by rw [hg]; exact M1) ?_
  refine r_invV (pc := 959) (ci := 2) 1 C dL_law_959 (mt_count x (xs (i + 1)) (hx _) hM) (fun g hg => ⟨10, _, hg.1⟩) (show vwC[2]? = some (RX2, TX2, 35) from rfl) rfl (lw_V q1594 q1595 q1596 q92 q1597) (by decide +kernel) rfl rfl ⟨Nat.le_of_ble_eq_true rfl, Nat.le_of_ble_eq_true rfl⟩ (Nat.le_of_ble_eq_true rfl) ⟨lawr2 hn (Nat.le_of_ble_eq_true rfl) rfl, laws2 hs (Nat.le_of_ble_eq_true rfl) rfl⟩ (fun v959 G959 h959 => ?_)
  obtain ⟨st2, N2, e2, r2⟩ := h959
  subst e2
  have mm : MAt st2 x := MAt.xw hM r2 (by decide)
  refine r_icmp_eq (pc := 962) (tgt := 981) C dL_law_962 (by decide) (fun _ => ?_) (fun e => absurd rfl e)
  exact ww_wide (lawW (Nat.le_of_ble_eq_true rfl) rfl) (lawW (Nat.le_of_ble_eq_true rfl) rfl) (K _ st2 _ (LI.back cp s1 N2 mm))
set_option maxHeartbeats 800000 in
theorem law_digest {nm : String} {Z : ZC} {b L i xh mh n s : Nat} {xs : Nat → Int} {mad : Nat → Nat} {x : AS} {st : MSt} {G : Gh} (C : CC Z (yLn nm) cL_law 4 (some .boolean) room_1) (hx : ∀ j, i32 (xs j)) (hi : i + 5 ≤ L) (hL : L ≤ 320) (I : LI (zX Z) b L xs xh mh mad x st G) (hn : n + 8784 ≤ 861366) (hs : s + 80578 ≤ 6518152) (K : LK Z b L xs xh mh mad i (n + 8784) (s + 80578)) : WW Z 4 (fun g => g = G) n s 967 [some (.ref b), some (.ref xh), some (.ref mh), some (.int (iI (i : Int)))] [] := by
  obtain ⟨⟨A, dr, rls, rm, fls, fm, cls, cm, h⟩, M0, hM, sb⟩ := I
  have hM0 := hM
  obtain ⟨pa, ra, va, re⟩ := hM0
  refine r_aload_n (pc := 967) C dL_law_967 rfl rfl ?_
  refine r_invV (pc := 968) (ci := 0) 0 C dL_law_968 (xo_digest h) (g2 h.ob) (show vwC[0]? = some (RX0, TX0, 10) from rfl) rfl (lw_V q1143 q1144 q1145 q81 q1146) (by decide +kernel) rfl rfl ⟨Nat.le_of_ble_eq_true rfl, Nat.le_of_ble_eq_true rfl⟩ (Nat.le_of_ble_eq_true rfl) ⟨lawr hn (Nat.le_of_ble_eq_true rfl), laws hs (Nat.le_of_ble_eq_true rfl)⟩ (fun v968 G968 h968 => ?_)
  obtain ⟨e1, r1⟩ := h968
  subst e1
  have cp : COMP (zX Z) G968 xh x := (h.fr r1 (by decide)).comp
  have fr : FR cT G G968 := r1.wk (by decide)
  obtain ⟨M1, s1⟩ := LI.comp M0 sb fr
  refine r_aload_n (pc := 971) C dL_law_971 rfl rfl ?_
  refine ww_to (Γ' := MOD mh mad G968 st) (fun g hg => by rw [hg]; exact M1) ?_
  refine r_invV (pc := 972) (ci := 2) 0 C dL_law_972 (mt_digest x   hM) (fun g hg => ⟨10, _, hg.1⟩) (show vwC[2]? = some (RX2, TX2, 35) from rfl) rfl (lw_V q1610 q1611 q1612 q92 q1613) (by decide +kernel) rfl rfl ⟨Nat.le_of_ble_eq_true rfl, Nat.le_of_ble_eq_true rfl⟩ (Nat.le_of_ble_eq_true rfl) ⟨lawr2 hn (Nat.le_of_ble_eq_true rfl) rfl, laws2 hs (Nat.le_of_ble_eq_true rfl) rfl⟩ (fun v972 G972 h972 => ?_)
  obtain ⟨st2, N2, e2, r2⟩ := h972
  subst e2
  have mm : MAt st2 x := MAt.xw hM r2 (by decide)
  refine r_lcmp (pc := 975) C dL_law_975 ?_
  rw [lg_self]
  refine r_if_eq (pc := 976) (tgt := 981) C dL_law_976 (by decide) (fun _ => ?_) (fun e => absurd rfl e)
  exact ww_wide (lawW (Nat.le_of_ble_eq_true rfl) rfl) (lawW (Nat.le_of_ble_eq_true rfl) rfl) (K _ st2 _ (LI.back cp s1 N2 mm))

