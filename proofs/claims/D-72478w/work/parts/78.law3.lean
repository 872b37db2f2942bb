/-! the law: its loop -/
set_option maxRecDepth 100000
set_option maxHeartbeats 800000 in
theorem law_disp {nm : String} {Z : ZC} {b L i xh mh n s : Nat} {xs : Nat → Int} {mad : Nat → Nat} {x : AS} {st : MSt} {G : Gh} (C : CC Z (yLn nm) cL_law 4 (some .boolean) room_1) (hx : ∀ j, i32 (xs j)) (hi : i + 5 ≤ L) (hL : L ≤ 320) (I : LI (zX Z) b L xs xh mh mad x st G) (hn : n + 8784 ≤ 861366) (hs : s + 80578 ≤ 6518152) (K : LK Z b L xs xh mh mad i (n + 8784) (s + 80578)) : WW Z 4 (fun g => g = G) n s 26 [some (.ref b), some (.ref xh), some (.ref mh), some (.int (iI (i : Int)))] [] := by
  refine r_aload_n (pc := 26) C dL_law_26 rfl rfl ?_
  refine r_iload_n (pc := 27) C dL_law_27 rfl rfl ?_
  refine r_scr (pc := 28) (j := i) C dL_law_28 (fun g hg => ⟨0, by rw [hg]; exact I.2.2.2⟩) rfl (by omega) hL ?_
  refine r_bipushZ (pc := 29) C dL_law_29 (by decide) ?_
  refine r_iand (pc := 31) C dL_law_31 ?_
  generalize iI (xs i) &&& iI 31 = w
  obtain ⟨a, ha, e⟩ : ∃ a, i32 a ∧ w = iI a := ⟨w.toInt, ⟨Int32.le_toInt w, (by have := Int32.toInt_lt w; omega)⟩, (Int32.ofInt_toInt w).symm⟩
  subst e
  refine r_tcase 0 (fun h32 => ?_) (fun h32_0 => ?_)
  · refine r_tableInZ (pc := 32) (off := 128) (tgt := 160) C dL_law_32 ha (by omega) (by omega) (by rw [h32]; rfl) (by decide) ?_
    exact law_letter C hx hi hL I hn hs K
  refine r_tcase 1 (fun h32 => ?_) (fun h32_1 => ?_)
  · refine r_tableInZ (pc := 32) (off := 151) (tgt := 183) C dL_law_32 ha (by omega) (by omega) (by rw [h32]; rfl) (by decide) ?_
    exact law_blank C hx hi hL I hn hs K
  refine r_tcase 2 (fun h32 => ?_) (fun h32_2 => ?_)
  · refine r_tableInZ (pc := 32) (off := 164) (tgt := 196) C dL_law_32 ha (by omega) (by omega) (by rw [h32]; rfl) (by decide) ?_
    exact law_fault C hx hi hL I hn hs K
  refine r_tcase 3 (fun h32 => ?_) (fun h32_3 => ?_)
  · refine r_tableInZ (pc := 32) (off := 177) (tgt := 209) C dL_law_32 ha (by omega) (by omega) (by rw [h32]; rfl) (by decide) ?_
    exact law_word C hx hi hL I hn hs K
  refine r_tcase 4 (fun h32 => ?_) (fun h32_4 => ?_)
  · refine r_tableInZ (pc := 32) (off := 190) (tgt := 222) C dL_law_32 ha (by omega) (by omega) (by rw [h32]; rfl) (by decide) ?_
    exact law_road C hx hi hL I hn hs K
  refine r_tcase 5 (fun h32 => ?_) (fun h32_5 => ?_)
  · refine r_tableInZ (pc := 32) (off := 223) (tgt := 255) C dL_law_32 ha (by omega) (by omega) (by rw [h32]; rfl) (by decide) ?_
    exact law_sign C hx hi hL I hn hs K
  refine r_tcase 6 (fun h32 => ?_) (fun h32_6 => ?_)
  · refine r_tableInZ (pc := 32) (off := 256) (tgt := 288) C dL_law_32 ha (by omega) (by omega) (by rw [h32]; rfl) (by decide) ?_
    exact law_table C hx hi hL I hn hs K
  refine r_tcase 7 (fun h32 => ?_) (fun h32_7 => ?_)
  · refine r_tableInZ (pc := 32) (off := 289) (tgt := 321) C dL_law_32 ha (by omega) (by omega) (by rw [h32]; rfl) (by decide) ?_
    exact law_form C hx hi hL I hn hs K
  refine r_tcase 8 (fun h32 => ?_) (fun h32_8 => ?_)
  · refine r_tableInZ (pc := 32) (off := 322) (tgt := 354) C dL_law_32 ha (by omega) (by omega) (by rw [h32]; rfl) (by decide) ?_
    exact law_end C hx hi hL I hn hs K
  refine r_tcase 9 (fun h32 => ?_) (fun h32_9 => ?_)
  · refine r_tableInZ (pc := 32) (off := 355) (tgt := 387) C dL_law_32 ha (by omega) (by omega) (by rw [h32]; rfl) (by decide) ?_
    exact law_alike C hx hi hL I hn hs K
  refine r_tcase 10 (fun h32 => ?_) (fun h32_10 => ?_)
  · refine r_tableInZ (pc := 32) (off := 388) (tgt := 420) C dL_law_32 ha (by omega) (by omega) (by rw [h32]; rfl) (by decide) ?_
    exact law_cross C hx hi hL I hn hs K
  refine r_tcase 11 (fun h32 => ?_) (fun h32_11 => ?_)
  · refine r_tableInZ (pc := 32) (off := 421) (tgt := 453) C dL_law_32 ha (by omega) (by omega) (by rw [h32]; rfl) (by decide) ?_
    exact law_turn C hx hi hL I hn hs K
  refine r_tcase 12 (fun h32 => ?_) (fun h32_12 => ?_)
  · refine r_tableInZ (pc := 32) (off := 454) (tgt := 486) C dL_law_32 ha (by omega) (by omega) (by rw [h32]; rfl) (by decide) ?_
    exact law_change C hx hi hL I hn hs K
  refine r_tcase 13 (fun h32 => ?_) (fun h32_13 => ?_)
  · refine r_tableInZ (pc := 32) (off := 487) (tgt := 519) C dL_law_32 ha (by omega) (by omega) (by rw [h32]; rfl) (by decide) ?_
    exact law_join C hx hi hL I hn hs K
  refine r_tcase 14 (fun h32 => ?_) (fun h32_14 => ?_)
  · refine r_tableInZ (pc := 32) (off := 520) (tgt := 552) C dL_law_32 ha (by omega) (by omega) (by rw [h32]; rfl) (by decide) ?_
    exact law_times C hx hi hL I hn hs K
  refine r_tcase 15 (fun h32 => ?_) (fun h32_15 => ?_)
  · refine r_tableInZ (pc := 32) (off := 553) (tgt := 585) C dL_law_32 ha (by omega) (by omega) (by rw [h32]; rfl) (by decide) ?_
    exact law_cut C hx hi hL I hn hs K
  refine r_tcase 16 (fun h32 => ?_) (fun h32_16 => ?_)
  · refine r_tableInZ (pc := 32) (off := 586) (tgt := 618) C dL_law_32 ha (by omega) (by omega) (by rw [h32]; rfl) (by decide) ?_
    exact law_drop C hx hi hL I hn hs K
  refine r_tcase 17 (fun h32 => ?_) (fun h32_17 => ?_)
  · refine r_tableInZ (pc := 32) (off := 599) (tgt := 631) C dL_law_32 ha (by omega) (by omega) (by rw [h32]; rfl) (by decide) ?_
    exact law_river C hx hi hL I hn hs K
  refine r_tcase 18 (fun h32 => ?_) (fun h32_18 => ?_)
  · refine r_tableInZ (pc := 32) (off := 622) (tgt := 654) C dL_law_32 ha (by omega) (by omega) (by rw [h32]; rfl) (by decide) ?_
    exact law_simple C hx hi hL I hn hs K
  refine r_tcase 19 (fun h32 => ?_) (fun h32_19 => ?_)
  · refine r_tableInZ (pc := 32) (off := 655) (tgt := 687) C dL_law_32 ha (by omega) (by omega) (by rw [h32]; rfl) (by decide) ?_
    exact law_cycle C hx hi hL I hn hs K
  refine r_tcase 20 (fun h32 => ?_) (fun h32_20 => ?_)
  · refine r_tableInZ (pc := 32) (off := 688) (tgt := 720) C dL_law_32 ha (by omega) (by omega) (by rw [h32]; rfl) (by decide) ?_
    exact law_step C hx hi hL I hn hs K
  refine r_tcase 21 (fun h32 => ?_) (fun h32_21 => ?_)
  · refine r_tableInZ (pc := 32) (off := 721) (tgt := 753) C dL_law_32 ha (by omega) (by omega) (by rw [h32]; rfl) (by decide) ?_
    exact law_trace C hx hi hL I hn hs K
  refine r_tcase 22 (fun h32 => ?_) (fun h32_22 => ?_)
  · refine r_tableInZ (pc := 32) (off := 754) (tgt := 786) C dL_law_32 ha (by omega) (by omega) (by rw [h32]; rfl) (by decide) ?_
    by_cases hz : xs (i + 4) = 0
    · exact law_flow_f C hx hi hL I hn hs hz K
    · exact law_flow_t C hx hi hL I hn hs hz K
  refine r_tcase 23 (fun h32 => ?_) (fun h32_23 => ?_)
  · refine r_tableInZ (pc := 32) (off := 823) (tgt := 855) C dL_law_32 ha (by omega) (by omega) (by rw [h32]; rfl) (by decide) ?_
    exact law_lay C hx hi hL I hn hs K
  refine r_tcase 24 (fun h32 => ?_) (fun h32_24 => ?_)
  · refine r_tableInZ (pc := 32) (off := 846) (tgt := 878) C dL_law_32 ha (by omega) (by omega) (by rw [h32]; rfl) (by decide) ?_
    exact law_where C hx hi hL I hn hs K
  refine r_tcase 25 (fun h32 => ?_) (fun h32_25 => ?_)
  · refine r_tableInZ (pc := 32) (off := 869) (tgt := 901) C dL_law_32 ha (by omega) (by omega) (by rw [h32]; rfl) (by decide) ?_
    exact law_drawn C hx hi hL I hn hs K
  refine r_tcase 26 (fun h32 => ?_) (fun h32_26 => ?_)
  · refine r_tableInZ (pc := 32) (off := 912) (tgt := 944) C dL_law_32 ha (by omega) (by omega) (by rw [h32]; rfl) (by decide) ?_
    exact law_count C hx hi hL I hn hs K
  refine r_tcase 27 (fun h32 => ?_) (fun h32_27 => ?_)
  · refine r_tableInZ (pc := 32) (off := 935) (tgt := 967) C dL_law_32 ha (by omega) (by omega) (by rw [h32]; rfl) (by decide) ?_
    exact law_digest C hx hi hL I hn hs K
  refine r_tableOutZ (pc := 32) (tgt := 981) C dL_law_32 ha (by omega) (by decide) ?_
  exact ww_wide (by omega) (by omega) (K _ _ _ I)
theorem law_loop {nm : String} {Z : ZC} {b L xh mh : Nat} {xs : Nat → Int} {mad : Nat → Nat} (C : CC Z (yLn nm) cL_law 4 (some .boolean) room_1) (hx : ∀ j, i32 (xs j)) (hL : L ≤ 320) (hE : ∀ n s lv G, n ≤ 861366 → s ≤ 6518152 → WW Z 4 (fun g => g = G) n s 988 lv [.int (iI 1)]) : ∀ d j : Nat, j + d = 64 → ∀ x st G, LI (zX Z) b L xs xh mh mad x st G → WW Z 4 (fun g => g = G) (22 + j * 8784) (7700 + j * 80578) 18 [some (.ref b), some (.ref xh), some (.ref mh), some (.int (iI ((5 * j : Nat) : Int)))] [] := by
  intro d
  induction d with
  | zero =>
    intro j hj x st G I
    refine r_iload_n (pc := 18) C dL_law_18 rfl rfl ?_
    refine r_aload_n (pc := 19) C dL_law_19 rfl rfl ?_
    refine r_alenZ (pc := 20) C dL_law_20 (fun g hg => ⟨0, by rw [hg]; exact I.2.2.2⟩) ?_
    refine r_iconstZ (pc := 21) C dL_law_21 ?_
    refine r_isubZ (pc := 22) C dL_law_22 ?_
    refine r_icmp_gtZ (pc := 23) (tgt := 987) C dL_law_23 (by decide) (by unfold i32; omega) (by unfold i32; omega) (fun h23 => ?_) (fun h23 => ?_)
    · refine r_iconstZ (pc := 987) C dL_law_987 ?_
      exact hE _ _ _ _ (by omega) (by omega)
    · exact absurd h23 (by omega)
  | succ d ih =>
    intro j hj x st G I
    refine r_iload_n (pc := 18) C dL_law_18 rfl rfl ?_
    refine r_aload_n (pc := 19) C dL_law_19 rfl rfl ?_
    refine r_alenZ (pc := 20) C dL_law_20 (fun g hg => ⟨0, by rw [hg]; exact I.2.2.2⟩) ?_
    refine r_iconstZ (pc := 21) C dL_law_21 ?_
    refine r_isubZ (pc := 22) C dL_law_22 ?_
    refine r_icmp_gtZ (pc := 23) (tgt := 987) C dL_law_23 (by decide) (by unfold i32; omega) (by unfold i32; omega) (fun h23 => ?_) (fun h23 => ?_)
    · refine r_iconstZ (pc := 987) C dL_law_987 ?_
      exact hE _ _ _ _ (by omega) (by omega)
    · exact law_disp (i := 5 * j) C hx (by omega) hL I (by omega) (by omega) (fun x' st' G' I' => by refine r_iincZ (pc := 981) C dL_law_981 rfl (by decide) ?_; refine r_goto (pc := 984) (tgt := 18) C dL_law_984 (by decide) ?_; have e : (((5 * j : Nat)) : Int) + 5 = ((5 * (j + 1) : Nat) : Int) := (by omega); rw [show lset [some (Value.ref b), some (Value.ref xh), some (Value.ref mh), some (Value.int (iI ((5 * j : Nat) : Int)))] 3 (Value.int (iI (((5 * j : Nat) : Int) + 5))) = [some (Value.ref b), some (Value.ref xh), some (Value.ref mh), some (Value.int (iI (((5 * j : Nat) : Int) + 5)))] from rfl, e]; exact ww_wide (by omega) (by omega) (ih (j + 1) (by omega) x' st' G' I'))
theorem law_start {nm : String} {Z : ZC} {b L : Nat} {xs : Nat → Int} {G0 : Gh} (C : CC Z (yLn nm) cL_law 4 (some .boolean) room_1) (hx : ∀ j, i32 (xs j)) (hL : L ≤ 320) (hk : KON (zX Z) G0) (sb : G0 b = some (0, .inr (0, L, fun j => .int (iI (xs j))))) (hE : ∀ n s lv G, n ≤ 861366 → s ≤ 6518152 → WW Z 4 (fun g => g = G) n s 988 lv [.int (iI 1)]) : WW Z 4 (fun g => g = G0) 0 0 0 [some (.ref b), none, none, none] [] := by
  refine r_newE (pc := 0) (ci := 0) (fs := [.null, .null, .null, .null, .int (iI 0), .null, .int (iI 0), .null, .null, .long (lI 0)]) 1 C dL_law_0 (show vwC[0]? = some (RX0, TX0, 10) from rfl) in_X0 tyX0 tyX0_ok q103 q104 q81 (by decide +kernel) (by first | exact Nat.le_of_ble_eq_true rfl | (dsimp only [rmk]; omega) | omega) (by first | exact Nat.le_of_ble_eq_true rfl | (dsimp only [rmk]; omega) | omega) (fun a0 n0 => ?_)
  refine r_dup (pc := 3) C dL_law_3 rfl ?_
  refine r_invI (pc := 4) 0 C dL_law_4 (xo_init (hk.fr (FR.new (ts := [1]) n0) (by decide)) (gup_eq _ _ _)) rfl (lw_meth q107) q81 q105 q106 rfl (by decide +kernel) rfl rfl ⟨Nat.le_of_ble_eq_true rfl, Nat.le_of_ble_eq_true rfl⟩ (Nat.le_of_ble_eq_true rfl) ⟨(by first | exact Nat.le_of_ble_eq_true rfl | (dsimp only [rmk]; omega) | omega), (by first | exact Nat.le_of_ble_eq_true rfl | (dsimp only [rmk]; omega) | omega)⟩ (fun v4 G4 h4 => ?_)
  obtain ⟨e4, cp, f4⟩ := h4
  subst e4
  have s4 := f4 _ _ (up0 n0 sb) (show 0 ∉ cT by decide)
  refine r_astore_n (pc := 7) C dL_law_7 rfl (by decide) ?_
  refine r_newE (pc := 8) (ci := 2) (fs := [.int (iI 0), .null, .int (iI 0), .null, .null, .int (iI 0), .int (iI 0), .int (iI 0), .null, .null, .null, .null, .null, .int (iI 0), .null, .int (iI 0), .null, .int (iI 0), .int (iI 0), .null, .int (iI 0), .null, .int (iI 0), .int (iI 0), .int (iI 0), .int (iI 0), .int (iI 0), .int (iI 0), .int (iI 0), .int (iI 0), .int (iI 0), .int (iI 0), .int (iI 0), .long (lI 0), .long (lI 0)]) 10 C dL_law_8 (show vwC[2]? = some (RX2, TX2, 35) from rfl) in_X2 tyX2 tyX2_ok q1166 q1167 q92 (by decide +kernel) (by first | exact Nat.le_of_ble_eq_true rfl | (dsimp only [rmk]; omega) | omega) (by first | exact Nat.le_of_ble_eq_true rfl | (dsimp only [rmk]; omega) | omega) (fun a8 n8 => ?_)
  refine r_dup (pc := 11) C dL_law_11 rfl ?_
  refine r_invI (pc := 12) 0 C dL_law_12 (mt_init (gup_eq _ _ _)) rfl (lw_meth q1170) q92 q1168 q1169 rfl (by decide +kernel) rfl rfl ⟨Nat.le_of_ble_eq_true rfl, Nat.le_of_ble_eq_true rfl⟩ (Nat.le_of_ble_eq_true rfl) ⟨(by first | exact Nat.le_of_ble_eq_true rfl | (dsimp only [rmk]; omega) | omega), (by first | exact Nat.le_of_ble_eq_true rfl | (dsimp only [rmk]; omega) | omega)⟩ (fun v12 G12 h12 => ?_)
  obtain ⟨e12, mad, N⟩ := h12
  subst e12
  obtain ⟨A, dr, rls, rm, fls, fm, cls, cm, h⟩ := cp
  have I := LI.back (h.fr (FR.new (ts := [10]) n8) (by decide)).comp (up0 n8 s4) N MAt_0
  refine r_astore_n (pc := 15) C dL_law_15 rfl (by decide) ?_
  refine r_iconstZ (pc := 16) C dL_law_16 ?_
  refine r_istore_n (pc := 17) C dL_law_17 rfl (by decide) ?_
  exact ww_wide (Nat.le_of_ble_eq_true rfl) (Nat.le_of_ble_eq_true rfl) (law_loop C hx hL hE 64 0 rfl _ _ _ I)

