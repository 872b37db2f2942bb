/-! the component: tables of words, forms of tables, roads compared, crossings -/
set_option maxRecDepth 100000
set_option maxHeartbeats 800000 in
theorem xo_tableOf {la : Launch} {X : XE} {G0 : Gh} {xh s : Nat} {A : Nat → Nat} {rdn rv dr : Int} {w : List Bool} (hx : XOB G0 xh A rdn rv dr) (h : STR G0 s (txt w)) (hw : w.length ≤ 20) : MG la X yX0_tableOf cX0_tableOf 4 (some (.object "RiverWords$Table")) (rmk 4 20 80 85) [.ref xh, .ref s] (fun G => G = G0) (fun v G => ∃ e, v = some (.ref e) ∧ TAB G e (wTab w) ∧ FR [] G0 G) := by
  refine MG.of (by decide +kernel) (Nat.le_of_ble_eq_true rfl) ?_
  intro Z C hX hL hQ
  subst hX; subst hL
  change WW Z 4 (fun G => G = G0) 0 0 0 [some (.ref xh), some (.ref s), none, none] []
  have loop : ∀ i : Nat, i ≤ w.length → ∀ t : Nat, WW Z 4 (fun G => TAB G t (wTab (w.take i)) ∧ FR [] G0 G) i (4 * i) 7 [some (.ref xh), some (.ref s), some (.ref t), some (.int (iI (i : Int)))] [] := by
    refine loopN _ _ (fun i hi ih t => ?_)
    refine ww_all (fun G1 hG1 => ?_)
    obtain ⟨q1, q2⟩ := hG1
    have hx1 := hx.fr q2 (by decide) (by decide)
    have h1 := h.fr q2 (by decide)
    refine r_iload_n (pc := 7) C dX0_tableOf_7 rfl rfl ?_
    refine r_aload_n (pc := 8) C dX0_tableOf_8 rfl rfl ?_
    refine r_invF (pc := 9) (ci := 7) (x2 := ⟨"java/lang/CharSequence", "length", "()I"⟩) 0 C dX0_tableOf_9 (xs_length h1) (gS h1) (show vwC[7]? = some (RJ0, TJ0, 4) from rfl) rfl (lw_F q599 q450 q452 q83 q454) (by decide +kernel) (by decide +kernel) rfl rfl ⟨Nat.le_of_ble_eq_true rfl, Nat.le_of_ble_eq_true rfl⟩ (Nat.le_of_ble_eq_true rfl) ⟨(by first | exact Nat.le_of_ble_eq_true rfl | (dsimp only [rmk]; omega) | omega), (by first | exact Nat.le_of_ble_eq_true rfl | (dsimp only [rmk]; omega) | omega)⟩ (rd_k ?_)
    refine r_icmp_geZ (pc := 14) (tgt := 51) C dX0_tableOf_14 (by decide) (by unfold i32; omega) (by unfold i32; omega) (fun h14 => ?_) (fun h14 => ?_)
    · refine r_aload_n (pc := 51) C dX0_tableOf_51 rfl rfl ?_
      exact r_aret (pc := 52) C hQ dX0_tableOf_52 (by first | exact Or.inl ⟨_, rfl⟩ | exact Or.inr ⟨_, rfl⟩) (by first | exact Or.inr ⟨_, rfl⟩ | exact Or.inl rfl) (by first | exact Nat.le_of_ble_eq_true rfl | (dsimp only [rmk]; omega) | omega) (by first | exact Nat.le_of_ble_eq_true rfl | (dsimp only [rmk]; omega) | omega) (fun G hG => (by cases hG; rw [List.take_of_length_le (by omega)] at q1; exact ⟨t, rfl, q1, q2⟩))
    · refine r_aload_n (pc := 17) C dX0_tableOf_17 rfl rfl ?_
      refine r_aload_n (pc := 18) C dX0_tableOf_18 rfl rfl ?_
      refine r_iload_n (pc := 19) C dX0_tableOf_19 rfl rfl ?_
      refine r_invF (pc := 20) (ci := 7) (x2 := ⟨"java/lang/CharSequence", "charAt", "(I)C"⟩) 1 C dX0_tableOf_20 (xs_at (i : Int) h1 ⟨by omega, by omega⟩) (gS h1) (show vwC[7]? = some (RJ0, TJ0, 4) from rfl) rfl (lw_F q601 q467 q469 q83 q471) (by decide +kernel) (by decide +kernel) rfl rfl ⟨Nat.le_of_ble_eq_true rfl, Nat.le_of_ble_eq_true rfl⟩ (Nat.le_of_ble_eq_true rfl) ⟨(by first | exact Nat.le_of_ble_eq_true rfl | (dsimp only [rmk]; omega) | omega), (by first | exact Nat.le_of_ble_eq_true rfl | (dsimp only [rmk]; omega) | omega)⟩ (rd_k ?_)
      rw [show ((i : Int)).toNat = i from rfl]
      have c1 := codeB_b (wl w i)
      refine r_bipushZ (pc := 25) C dX0_tableOf_25 (by decide) ?_
      refine r_icmp_neZ (pc := 27) (tgt := 37) C dX0_tableOf_27 (by decide) (by unfold i32; omega) (by unfold i32; omega) (fun h27 => ?_) (fun h27 => ?_)
      · refine r_aload_n (pc := 37) C dX0_tableOf_37 rfl rfl ?_
        refine r_get (pc := 38) (k := 2) (ci := 0) C dX0_tableOf_38 (g1 hx1.1) (show vwC[0]? = some (RX0, TX0, 10) from rfl) in_X0 (by decide) (C.t _ q277) (fun _ h => h) rfl ?_
        refine r_invV (pc := 41) (ci := 1) 1 C dX0_tableOf_41 (xt_times (wl w i) q1 (by first | (rw [codeB_L.mp h27]; exact hx1.2.2.1) | (rw [show wl w i = true by cases hq : wl w i; exact absurd (codeB_L.mpr hq) h27; rfl]; exact hx1.2.2.2))) (g2 q1) (show vwC[1]? = some (RX1, TX1, 4) from rfl) rfl (lw_V q602 q603 q604 q82 q605) (by decide +kernel) rfl rfl ⟨Nat.le_of_ble_eq_true rfl, Nat.le_of_ble_eq_true rfl⟩ (Nat.le_of_ble_eq_true rfl) ⟨(by first | exact Nat.le_of_ble_eq_true rfl | (dsimp only [rmk]; omega) | omega), (by first | exact Nat.le_of_ble_eq_true rfl | (dsimp only [rmk]; omega) | omega)⟩ (fun v41 G41 h41 => ?_)
        obtain ⟨e, rfl, r1, r2⟩ := h41
        rw [← wTab_push, ← take_push (by omega)] at r1
        refine r_astore_n (pc := 44) C dX0_tableOf_44 rfl (by decide) ?_
        refine r_iincZ (pc := 45) C dX0_tableOf_45 rfl (by decide) ?_
        refine r_goto (pc := 48) (tgt := 7) C dX0_tableOf_48 (by decide) ?_
        refine ww_wide (n' := i + 1) (s' := 4 * (i + 1)) (by dsimp only [rmk]; omega) (by dsimp only [rmk]; omega) ?_
        exact ww_to (fun G hG => by rw [hG]; exact ⟨r1, q2.tr r2⟩) (ih (by omega) e)
      · refine r_aload_n (pc := 30) C dX0_tableOf_30 rfl rfl ?_
        refine r_get (pc := 31) (k := 1) (ci := 0) C dX0_tableOf_31 (g1 hx1.1) (show vwC[0]? = some (RX0, TX0, 10) from rfl) in_X0 (by decide) (C.t _ q276) (fun _ h => h) rfl ?_
        refine r_goto (pc := 34) (tgt := 41) C dX0_tableOf_34 (by decide) ?_
        refine r_invV (pc := 41) (ci := 1) 1 C dX0_tableOf_41 (xt_times (wl w i) q1 (by first | (rw [codeB_L.mp h27]; exact hx1.2.2.1) | (rw [show wl w i = true by cases hq : wl w i; exact absurd (codeB_L.mpr hq) h27; rfl]; exact hx1.2.2.2))) (g2 q1) (show vwC[1]? = some (RX1, TX1, 4) from rfl) rfl (lw_V q602 q603 q604 q82 q605) (by decide +kernel) rfl rfl ⟨Nat.le_of_ble_eq_true rfl, Nat.le_of_ble_eq_true rfl⟩ (Nat.le_of_ble_eq_true rfl) ⟨(by first | exact Nat.le_of_ble_eq_true rfl | (dsimp only [rmk]; omega) | omega), (by first | exact Nat.le_of_ble_eq_true rfl | (dsimp only [rmk]; omega) | omega)⟩ (fun v41 G41 h41 => ?_)
        obtain ⟨e, rfl, r1, r2⟩ := h41
        rw [← wTab_push, ← take_push (by omega)] at r1
        refine r_astore_n (pc := 44) C dX0_tableOf_44 rfl (by decide) ?_
        refine r_iincZ (pc := 45) C dX0_tableOf_45 rfl (by decide) ?_
        refine r_goto (pc := 48) (tgt := 7) C dX0_tableOf_48 (by decide) ?_
        refine ww_wide (n' := i + 1) (s' := 4 * (i + 1)) (by dsimp only [rmk]; omega) (by dsimp only [rmk]; omega) ?_
        exact ww_to (fun G hG => by rw [hG]; exact ⟨r1, q2.tr r2⟩) (ih (by omega) e)
  refine r_aload_n (pc := 0) C dX0_tableOf_0 rfl rfl ?_
  refine r_get (pc := 1) (k := 0) (ci := 0) C dX0_tableOf_1 (g1 hx.1) (show vwC[0]? = some (RX0, TX0, 10) from rfl) in_X0 (by decide) (C.t _ q275) (fun _ h => h) rfl ?_
  refine r_astore_n (pc := 4) C dX0_tableOf_4 rfl (by decide) ?_
  refine r_iconstZ (pc := 5) C dX0_tableOf_5 ?_
  refine r_istore_n (pc := 6) C dX0_tableOf_6 rfl (by decide) ?_
  exact ww_to (fun G hG => by rw [hG]; exact ⟨hx.2.1, FR.rf⟩) (loop 0 (Nat.zero_le _) (A 0))
set_option maxHeartbeats 800000 in
theorem xo_layR {la : Launch} {X : XE} {G0 : Gh} {xh a t s : Nat} {A : Nat → Nat} {rdn rv dr : Int} {w : List Bool} {w0 t0 : Value} (hx : XOB G0 xh A rdn rv dr) (h : STR G0 s (txt w)) (hw : w.length ≤ 20) (ha : G0 a = some (t, .inl (4, [w0, t0, .ref xh]))) (ht : 2 ≤ t) : MG la X yX4_lay cX4_lay 2 none (rmk 5 20 80 108) [.ref a, .ref s] (fun G => G = G0) (fun v G => v = none ∧ ROAD G xh a t w ∧ FR [t] G0 G ∧ FRA a G0 G) := by
  refine MG.of (by decide +kernel) (Nat.le_of_ble_eq_true rfl) ?_
  intro Z C hX hL hQ
  subst hX; subst hL
  change WW Z 2 (fun G => G = G0) 0 0 0 [some (.ref a), some (.ref s)] []
  have ht0 : t ≠ 0 := by omega
  have n0 : 0 ∉ [t] := by simp; omega
  have n1 : 1 ∉ [t] := by simp; omega
  refine ww_to (Γ' := P1 a t 4 [w0, t0, .ref xh] G0) (fun G hG => by rw [hG]; exact P1.rf ha) ?_
  refine r_aload_n (pc := 0) C dX4_lay_0 rfl rfl ?_
  refine r_aload_n (pc := 1) C dX4_lay_1 rfl rfl ?_
  refine r_put (pc := 2) (k := 0) (ci := 4) (ty := .object "java/lang/String") C dX4_lay_2 (fun G hG => ⟨_, ht0, hG.1, hG.put⟩) (show vwC[4]? = some (RX4, TX4, 3) from rfl) in_X4 tyX4 tyX4_ok nmX4 (by decide) (C.t _ q606) (fun _ h => h) rfl (by decide +kernel) rfl rfl (Nat.le_of_ble_eq_true rfl) ?_
  refine r_aload_n (pc := 5) C dX4_lay_5 rfl rfl ?_
  refine r_aload_n (pc := 6) C dX4_lay_6 rfl rfl ?_
  refine r_get (pc := 7) (k := 2) (ci := 4) C dX4_lay_7 (fun G hG => ⟨_, hG.1⟩) (show vwC[4]? = some (RX4, TX4, 3) from rfl) in_X4 (by decide) (C.t _ q610) (fun _ h => h) rfl ?_
  refine r_aload_n (pc := 10) C dX4_lay_10 rfl rfl ?_
  refine ww_all (fun G1 hG1 => ?_)
  have f1 : FR [t] G0 G1 := hG1.fr ha (by simp)
  have hx1 := hx.fr f1 n0 n1
  refine r_invVN (pc := 11) (host := "RiverWords") (ci := 0) 1 C dX4_lay_11 (xo_tableOf hx1 (h.fr f1 n0) hw) (g2 hx1.1) (show vwC[0]? = some (RX0, TX0, 10) from rfl) rfl (by decide +kernel) (lw_meth q597) q81 q596 qs4 (by decide +kernel) rfl rfl ⟨Nat.le_of_ble_eq_true rfl, Nat.le_of_ble_eq_true rfl⟩ (Nat.le_of_ble_eq_true rfl) ⟨(by first | exact Nat.le_of_ble_eq_true rfl | (dsimp only [rmk]; omega) | omega), (by first | exact Nat.le_of_ble_eq_true rfl | (dsimp only [rmk]; omega) | omega)⟩ (fun v11 G11 h11 => ?_)
  obtain ⟨e, rfl, r1, r2⟩ := h11
  have a2 := r2 _ _ hG1.1 (List.not_mem_nil)
  refine ww_to (Γ' := P1 a t 4 [.ref s, t0, .ref xh] G11) (fun G hG => by rw [hG]; exact P1.rf a2) ?_
  refine r_put (pc := 14) (k := 1) (ci := 4) (ty := .object "RiverWords$Table") C dX4_lay_14 (fun G hG => ⟨_, ht0, hG.1, hG.put⟩) (show vwC[4]? = some (RX4, TX4, 3) from rfl) in_X4 tyX4 tyX4_ok nmX4 (by decide) (C.t _ q608) (fun _ h => h) rfl (by decide +kernel) rfl rfl (Nat.le_of_ble_eq_true rfl) ?_
  exact r_vret (pc := 17) C hQ dX4_lay_17 (by first | exact Nat.le_of_ble_eq_true rfl | (dsimp only [rmk]; omega) | omega) (by first | exact Nat.le_of_ble_eq_true rfl | (dsimp only [rmk]; omega) | omega) (fun G hG => ⟨rfl, ⟨s, e, hG.1, ((h.fr f1 n0).fr r2 (by decide)).fr (hG.fr a2 (ts := [t]) (by simp)) n0, r1.fr (hG.fr a2 (ts := [t]) (by simp)) n0⟩, (f1.tr (r2.nil _)).tr (hG.fr a2 (by simp)), fun c q hc hca => hG.2 c q (r2 c q (hG1.2 c q hc hca) List.not_mem_nil) hca⟩)
set_option maxHeartbeats 800000 in
theorem xo_initR {la : Launch} {X : XE} {G0 : Gh} {xh a t s : Nat} {A : Nat → Nat} {rdn rv dr : Int} {w : List Bool} (hx : XOB G0 xh A rdn rv dr) (h : STR G0 s (txt w)) (hw : w.length ≤ 20) (ha : G0 a = some (t, .inl (4, [.null, .null, .null]))) (ht : 2 ≤ t) : MG la X yX4_init cX4_init 3 none (rmk 6 20 80 129) [.ref a, .ref xh, .ref s] (fun G => G = G0) (fun v G => v = none ∧ ROAD G xh a t w ∧ FR [t] G0 G ∧ FRA a G0 G) := by
  refine MG.of (by decide +kernel) (Nat.le_of_ble_eq_true rfl) ?_
  intro Z C hX hL hQ
  subst hX; subst hL
  change WW Z 3 (fun G => G = G0) 0 0 0 [some (.ref a), some (.ref xh), some (.ref s)] []
  have ht0 : t ≠ 0 := by omega
  have n0 : 0 ∉ [t] := by simp; omega
  have n1 : 1 ∉ [t] := by simp; omega
  refine ww_to (Γ' := P1 a t 4 [.null, .null, .null] G0) (fun G hG => by rw [hG]; exact P1.rf ha) ?_
  refine r_aload_n (pc := 0) C dX4_init_0 rfl rfl ?_
  refine r_aload_n (pc := 1) C dX4_init_1 rfl rfl ?_
  refine r_putF (pc := 2) (k := 2) (ci := 4) (ty := .object "RiverWords") C dX4_init_2 (fun G hG => ⟨_, ht0, hG.1, hG.put⟩) (show vwC[4]? = some (RX4, TX4, 3) from rfl) in_X4 tyX4 tyX4_ok nmX4 (by decide) (C.t _ q610) (fun _ h => h) rfl rfl rfl (by decide +kernel) rfl rfl (Nat.le_of_ble_eq_true rfl) ?_
  refine r_aload_n (pc := 5) C dX4_init_5 rfl rfl ?_
  refine r_objInit (pc := 6) (own := "") C dX4_init_6 q589 q109 q110 (Nat.le_of_ble_eq_true rfl) (Nat.le_of_ble_eq_true rfl) ?_
  refine r_aload_n (pc := 9) C dX4_init_9 rfl rfl ?_
  refine r_aload_n (pc := 10) C dX4_init_10 rfl rfl ?_
  refine ww_all (fun G1 hG1 => ?_)
  have f1 : FR [t] G0 G1 := hG1.fr ha (by simp)
  refine r_invV (pc := 11) (ci := 4) 1 C dX4_init_11 (xo_layR (hx.fr f1 n0 n1) (h.fr f1 n0) hw hG1.1 ht) (g2 hG1.1) (show vwC[4]? = some (RX4, TX4, 3) from rfl) rfl (lw_V q590 q591 q592 q98 q593) (by decide +kernel) rfl rfl ⟨Nat.le_of_ble_eq_true rfl, Nat.le_of_ble_eq_true rfl⟩ (Nat.le_of_ble_eq_true rfl) ⟨(by first | exact Nat.le_of_ble_eq_true rfl | (dsimp only [rmk]; omega) | omega), (by first | exact Nat.le_of_ble_eq_true rfl | (dsimp only [rmk]; omega) | omega)⟩ (fun v11 G11 h11 => ?_)
  obtain ⟨rfl, r1, r2, r3⟩ := h11
  exact r_vret (pc := 14) C hQ dX4_init_14 (by first | exact Nat.le_of_ble_eq_true rfl | (dsimp only [rmk]; omega) | omega) (by first | exact Nat.le_of_ble_eq_true rfl | (dsimp only [rmk]; omega) | omega) (fun G hG => (by cases hG; exact ⟨rfl, r1, f1.tr r2, fun c q hc hca => r3 c q (hG1.2 c q hc hca) hca⟩))
set_option maxHeartbeats 800000 in
theorem xo_formOf {la : Launch} {X : XE} {G0 : Gh} {a : Nat} {w : List Bool} (h : TAB G0 a (wTab w)) (hw : w.length ≤ 20) (hc : wClosed w = true) : MG la X yX0_formOf cX0_formOf 2 (some (.object "RiverWords$Form")) (rmk 3 1 7 64) [.ref a] (fun G => G = G0) (fun v G => ∃ e, v = some (.ref e) ∧ FRM G e 9 (wFa w, wFb w, wFc w) NON 0 0 0 ∧ FR [] G0 G) := by
  refine MG.of (by decide +kernel) (Nat.le_of_ble_eq_true rfl) ?_
  intro Z C hX hL hQ
  subst hX; subst hL
  change WW Z 2 (fun G => G = G0) 0 0 0 [some (.ref a), none] []
  have hb := wTab_20 hw
  have hg := wG_b hw hc
  refine r_aload_n (pc := 0) C dX0_formOf_0 rfl rfl ?_
  refine r_invV (pc := 1) (ci := 1) 0 C dX0_formOf_1 (xt_grade h hw hc) (g2 h) (show vwC[1]? = some (RX1, TX1, 4) from rfl) rfl (lw_V q800 q801 q802 q82 q803) (by decide +kernel) rfl rfl ⟨Nat.le_of_ble_eq_true rfl, Nat.le_of_ble_eq_true rfl⟩ (Nat.le_of_ble_eq_true rfl) ⟨(by first | exact Nat.le_of_ble_eq_true rfl | (dsimp only [rmk]; omega) | omega), (by first | exact Nat.le_of_ble_eq_true rfl | (dsimp only [rmk]; omega) | omega)⟩ (rd_k ?_)
  refine r_istore_n (pc := 4) C dX0_formOf_4 rfl (by decide) ?_
  refine r_newE (pc := 5) (ci := 5) (fs := [.int (iI 0), .int (iI 0), .int (iI 0), .int (iI 0), .int (iI 0), .int (iI 0), .int (iI 0)]) 9 C dX0_formOf_5 (show vwC[5]? = some (RX6, TX6, 7) from rfl) in_X6 tyX6 tyX6_ok q810 q811 q101 (by decide +kernel) (by first | exact Nat.le_of_ble_eq_true rfl | (dsimp only [rmk]; omega) | omega) (by first | exact Nat.le_of_ble_eq_true rfl | (dsimp only [rmk]; omega) | omega) (fun a5 n5 => ?_)
  refine r_dup (pc := 8) C dX0_formOf_8 rfl ?_
  refine r_aload_n (pc := 9) C dX0_formOf_9 rfl rfl ?_
  refine r_getN (pc := 10) (k := 2) (ci := 1) C dX0_formOf_10 (g1 (up0 n5 h)) (show vwC[1]? = some (RX1, TX1, 4) from rfl) in_X1 (by decide) (C.nf (h1 := "RiverWords") (by decide +kernel)) (fun _ h => h) rfl ?_
  refine r_iload_n (pc := 13) C dX0_formOf_13 rfl rfl ?_
  refine r_idivZ (pc := 14) C dX0_formOf_14 (by unfold i32; omega) (by unfold i32; omega) (by omega) ?_
  refine r_aload_n (pc := 15) C dX0_formOf_15 rfl rfl ?_
  refine r_getN (pc := 16) (k := 3) (ci := 1) C dX0_formOf_16 (g1 (up0 n5 h)) (show vwC[1]? = some (RX1, TX1, 4) from rfl) in_X1 (by decide) (C.nf (h1 := "RiverWords") (by decide +kernel)) (fun _ h => h) rfl ?_
  refine r_aload_n (pc := 19) C dX0_formOf_19 rfl rfl ?_
  refine r_getN (pc := 20) (k := 0) (ci := 1) C dX0_formOf_20 (g1 (up0 n5 h)) (show vwC[1]? = some (RX1, TX1, 4) from rfl) in_X1 (by decide) (C.nf (h1 := "RiverWords") (by decide +kernel)) (fun _ h => h) rfl ?_
  refine r_isubZ (pc := 23) C dX0_formOf_23 ?_
  refine r_iload_n (pc := 24) C dX0_formOf_24 rfl rfl ?_
  refine r_idivZ (pc := 25) C dX0_formOf_25 (by unfold i32; omega) (by unfold i32; omega) (by omega) ?_
  refine r_aload_n (pc := 26) C dX0_formOf_26 rfl rfl ?_
  refine r_getN (pc := 27) (k := 1) (ci := 1) C dX0_formOf_27 (g1 (up0 n5 h)) (show vwC[1]? = some (RX1, TX1, 4) from rfl) in_X1 (by decide) (C.nf (h1 := "RiverWords") (by decide +kernel)) (fun _ h => h) rfl ?_
  refine r_inegZ (pc := 30) C dX0_formOf_30 ?_
  refine r_iload_n (pc := 31) C dX0_formOf_31 rfl rfl ?_
  refine r_idivZ (pc := 32) C dX0_formOf_32 (by unfold i32; omega) (by unfold i32; omega) (by omega) ?_
  refine r_invI (pc := 33) 3 C dX0_formOf_33 (xm_init _ _ _ (gup_eq _ _ _) (by decide)) rfl (lw_meth q814) q101 q812 q813 rfl (by decide +kernel) rfl rfl ⟨Nat.le_of_ble_eq_true rfl, Nat.le_of_ble_eq_true rfl⟩ (Nat.le_of_ble_eq_true rfl) ⟨(by first | exact Nat.le_of_ble_eq_true rfl | (dsimp only [rmk]; omega) | omega), (by first | exact Nat.le_of_ble_eq_true rfl | (dsimp only [rmk]; omega) | omega)⟩ (fun v33 G33 h33 => ?_)
  obtain ⟨rfl, q1⟩ := h33
  exact r_aret (pc := 36) C hQ dX0_formOf_36 (by first | exact Or.inl ⟨_, rfl⟩ | exact Or.inr ⟨_, rfl⟩) (by first | exact Or.inr ⟨_, rfl⟩ | exact Or.inl rfl) (by first | exact Nat.le_of_ble_eq_true rfl | (dsimp only [rmk]; omega) | omega) (by first | exact Nat.le_of_ble_eq_true rfl | (dsimp only [rmk]; omega) | omega) (fun G hG => (by cases hG; exact ⟨a5, rfl, q1.1, FR.made n5 q1⟩))
set_option maxHeartbeats 800000 in
theorem xo_formTold {la : Launch} {X : XE} {G0 : Gh} {a : Nat} {w : List Bool} (k : Int) (h : TAB G0 a (wTab w)) (hw : w.length ≤ 20) (hc : wClosed w = true) (hk : 0 ≤ k ∧ k ≤ 4) : MG la X yX0_formTold cX0_formTold 3 (some .int) (rmk 4 1 7 85) [.ref a, .int (iI k)] (fun G => G = G0) (fun v G => v = some (.int (iI (fTold w k))) ∧ FR [] G0 G) := by
  refine MG.of (by decide +kernel) (Nat.le_of_ble_eq_true rfl) ?_
  intro Z C hX hL hQ
  subst hX; subst hL
  change WW Z 3 (fun G => G = G0) 0 0 0 [some (.ref a), some (.int (iI k)), none] []
  refine r_aload_n (pc := 0) C dX0_formTold_0 rfl rfl ?_
  refine r_invS (pc := 1) 1 C dX0_formTold_1 (xo_formOf h hw hc) rfl (lw_S q797 q798 q81 q799) (by decide +kernel) rfl rfl ⟨Nat.le_of_ble_eq_true rfl, Nat.le_of_ble_eq_true rfl⟩ (Nat.le_of_ble_eq_true rfl) ⟨(by first | exact Nat.le_of_ble_eq_true rfl | (dsimp only [rmk]; omega) | omega), (by first | exact Nat.le_of_ble_eq_true rfl | (dsimp only [rmk]; omega) | omega)⟩ (fun v1 G1 h1 => ?_)
  obtain ⟨e, rfl, q1, q2⟩ := h1
  have h2 := h.fr q2 (by decide)
  refine r_astore_n (pc := 4) C dX0_formTold_4 rfl (by decide) ?_
  refine r_iload_n (pc := 5) C dX0_formTold_5 rfl rfl ?_
  refine r_tcase 0 (fun h6 => ?_) (fun h6_0 => ?_)
  · refine r_tableInZ (pc := 6) (off := 30) (tgt := 36) C dX0_formTold_6 (by unfold i32; omega) (by omega) (by omega) (by rw [h6]; rfl) (by decide) ?_
    refine r_aload_n (pc := 36) C dX0_formTold_36 rfl rfl ?_
    refine r_getN (pc := 37) (k := 0) (ci := 5) C dX0_formTold_37 (g1 q1) (show vwC[5]? = some (RX6, TX6, 7) from rfl) in_X6 (by decide) (C.nf (h1 := "RiverWords") (by decide +kernel)) (fun _ h => h) rfl ?_
    refine r_goto (pc := 40) (tgt := 68) C dX0_formTold_40 (by decide) ?_
    exact r_iret (pc := 68) C hQ dX0_formTold_68 (by first | exact Nat.le_of_ble_eq_true rfl | (dsimp only [rmk]; omega) | omega) (by first | exact Nat.le_of_ble_eq_true rfl | (dsimp only [rmk]; omega) | omega) (fun G hG => (by cases hG; refine ⟨?_, q2⟩; unfold fTold; first | (rw [if_pos h6]; done) | (rw [if_neg (by omega), if_pos h6]; done) | (rw [if_neg (by omega), if_neg (by omega), if_pos h6]; done) | (rw [if_neg (by omega), if_neg (by omega), if_neg (by omega), if_pos h6]; done) | (rw [if_neg (by omega), if_neg (by omega), if_neg (by omega), if_neg (by omega)]; done)))
  refine r_tcase 1 (fun h6 => ?_) (fun h6_1 => ?_)
  · refine r_tableInZ (pc := 6) (off := 37) (tgt := 43) C dX0_formTold_6 (by unfold i32; omega) (by omega) (by omega) (by rw [h6]; rfl) (by decide) ?_
    refine r_aload_n (pc := 43) C dX0_formTold_43 rfl rfl ?_
    refine r_getN (pc := 44) (k := 1) (ci := 5) C dX0_formTold_44 (g1 q1) (show vwC[5]? = some (RX6, TX6, 7) from rfl) in_X6 (by decide) (C.nf (h1 := "RiverWords") (by decide +kernel)) (fun _ h => h) rfl ?_
    refine r_goto (pc := 47) (tgt := 68) C dX0_formTold_47 (by decide) ?_
    exact r_iret (pc := 68) C hQ dX0_formTold_68 (by first | exact Nat.le_of_ble_eq_true rfl | (dsimp only [rmk]; omega) | omega) (by first | exact Nat.le_of_ble_eq_true rfl | (dsimp only [rmk]; omega) | omega) (fun G hG => (by cases hG; refine ⟨?_, q2⟩; unfold fTold; first | (rw [if_pos h6]; done) | (rw [if_neg (by omega), if_pos h6]; done) | (rw [if_neg (by omega), if_neg (by omega), if_pos h6]; done) | (rw [if_neg (by omega), if_neg (by omega), if_neg (by omega), if_pos h6]; done) | (rw [if_neg (by omega), if_neg (by omega), if_neg (by omega), if_neg (by omega)]; done)))
  refine r_tcase 2 (fun h6 => ?_) (fun h6_2 => ?_)
  · refine r_tableInZ (pc := 6) (off := 44) (tgt := 50) C dX0_formTold_6 (by unfold i32; omega) (by omega) (by omega) (by rw [h6]; rfl) (by decide) ?_
    refine r_aload_n (pc := 50) C dX0_formTold_50 rfl rfl ?_
    refine r_getN (pc := 51) (k := 2) (ci := 5) C dX0_formTold_51 (g1 q1) (show vwC[5]? = some (RX6, TX6, 7) from rfl) in_X6 (by decide) (C.nf (h1 := "RiverWords") (by decide +kernel)) (fun _ h => h) rfl ?_
    refine r_goto (pc := 54) (tgt := 68) C dX0_formTold_54 (by decide) ?_
    exact r_iret (pc := 68) C hQ dX0_formTold_68 (by first | exact Nat.le_of_ble_eq_true rfl | (dsimp only [rmk]; omega) | omega) (by first | exact Nat.le_of_ble_eq_true rfl | (dsimp only [rmk]; omega) | omega) (fun G hG => (by cases hG; refine ⟨?_, q2⟩; unfold fTold; first | (rw [if_pos h6]; done) | (rw [if_neg (by omega), if_pos h6]; done) | (rw [if_neg (by omega), if_neg (by omega), if_pos h6]; done) | (rw [if_neg (by omega), if_neg (by omega), if_neg (by omega), if_pos h6]; done) | (rw [if_neg (by omega), if_neg (by omega), if_neg (by omega), if_neg (by omega)]; done)))
  refine r_tcase 3 (fun h6 => ?_) (fun h6_3 => ?_)
  · refine r_tableInZ (pc := 6) (off := 51) (tgt := 57) C dX0_formTold_6 (by unfold i32; omega) (by omega) (by omega) (by rw [h6]; rfl) (by decide) ?_
    refine r_aload_n (pc := 57) C dX0_formTold_57 rfl rfl ?_
    refine r_invV (pc := 58) (ci := 1) 0 C dX0_formTold_58 (xt_grade h2 hw hc) (g2 h2) (show vwC[1]? = some (RX1, TX1, 4) from rfl) rfl (lw_V q800 q801 q802 q82 q803) (by decide +kernel) rfl rfl ⟨Nat.le_of_ble_eq_true rfl, Nat.le_of_ble_eq_true rfl⟩ (Nat.le_of_ble_eq_true rfl) ⟨(by first | exact Nat.le_of_ble_eq_true rfl | (dsimp only [rmk]; omega) | omega), (by first | exact Nat.le_of_ble_eq_true rfl | (dsimp only [rmk]; omega) | omega)⟩ (rd_k ?_)
    refine r_goto (pc := 61) (tgt := 68) C dX0_formTold_61 (by decide) ?_
    exact r_iret (pc := 68) C hQ dX0_formTold_68 (by first | exact Nat.le_of_ble_eq_true rfl | (dsimp only [rmk]; omega) | omega) (by first | exact Nat.le_of_ble_eq_true rfl | (dsimp only [rmk]; omega) | omega) (fun G hG => (by cases hG; refine ⟨?_, q2⟩; unfold fTold; first | (rw [if_pos h6]; done) | (rw [if_neg (by omega), if_pos h6]; done) | (rw [if_neg (by omega), if_neg (by omega), if_pos h6]; done) | (rw [if_neg (by omega), if_neg (by omega), if_neg (by omega), if_pos h6]; done) | (rw [if_neg (by omega), if_neg (by omega), if_neg (by omega), if_neg (by omega)]; done)))
  refine r_tableOutZ (pc := 6) (tgt := 64) C dX0_formTold_6 (by unfold i32; omega) (by omega) (by decide) ?_
  refine r_aload_n (pc := 64) C dX0_formTold_64 rfl rfl ?_
  refine r_invV (pc := 65) (ci := 5) 0 C dX0_formTold_65 (xm_disc q1) (g2 q1) (show vwC[5]? = some (RX6, TX6, 7) from rfl) rfl (lw_V q845 q846 q847 q101 q848) (by decide +kernel) rfl rfl ⟨Nat.le_of_ble_eq_true rfl, Nat.le_of_ble_eq_true rfl⟩ (Nat.le_of_ble_eq_true rfl) ⟨(by first | exact Nat.le_of_ble_eq_true rfl | (dsimp only [rmk]; omega) | omega), (by first | exact Nat.le_of_ble_eq_true rfl | (dsimp only [rmk]; omega) | omega)⟩ (rd_k ?_)
  exact r_iret (pc := 68) C hQ dX0_formTold_68 (by first | exact Nat.le_of_ble_eq_true rfl | (dsimp only [rmk]; omega) | omega) (by first | exact Nat.le_of_ble_eq_true rfl | (dsimp only [rmk]; omega) | omega) (fun G hG => (by cases hG; refine ⟨?_, q2⟩; unfold fTold; first | (rw [if_pos h6]; done) | (rw [if_neg (by omega), if_pos h6]; done) | (rw [if_neg (by omega), if_neg (by omega), if_pos h6]; done) | (rw [if_neg (by omega), if_neg (by omega), if_neg (by omega), if_pos h6]; done) | (rw [if_neg (by omega), if_neg (by omega), if_neg (by omega), if_neg (by omega)]; done)))
set_option maxHeartbeats 800000 in
theorem xo_endTold {la : Launch} {X : XE} {G0 : Gh} {a : Nat} {w : List Bool} (k : Int) (h : TAB G0 a (wTab w)) (hk : 0 ≤ k ∧ k ≤ 1) : MG la X yX0_endTold cX0_endTold 2 (some .int) (rmk 0 0 0 0) [.ref a, .int (iI k)] (fun G => G = G0) (fun zv G => zv = some (.int (iI (eTold w k))) ∧ G = G0) := by
  refine MG.of (by decide +kernel) (Nat.le_of_ble_eq_true rfl) ?_
  intro Z C hX hL hQ
  subst hX; subst hL
  change WW Z 2 (fun G => G = G0) 0 0 0 [some (.ref a), some (.int (iI k))] []
  refine r_iload_n (pc := 0) C dX0_endTold_0 rfl rfl ?_
  refine r_if_neZ (pc := 1) (tgt := 16) C dX0_endTold_1 (by decide) (by unfold i32; omega) (fun h1 => ?_) (fun h1 => ?_)
  · refine r_aload_n (pc := 16) C dX0_endTold_16 rfl rfl ?_
    refine r_getN (pc := 17) (k := 2) (ci := 1) C dX0_endTold_17 (g1 h) (show vwC[1]? = some (RX1, TX1, 4) from rfl) in_X1 (by decide) (C.nf (h1 := "RiverWords") (by decide +kernel)) (fun _ h => h) rfl ?_
    refine r_aload_n (pc := 20) C dX0_endTold_20 rfl rfl ?_
    refine r_getN (pc := 21) (k := 3) (ci := 1) C dX0_endTold_21 (g1 h) (show vwC[1]? = some (RX1, TX1, 4) from rfl) in_X1 (by decide) (C.nf (h1 := "RiverWords") (by decide +kernel)) (fun _ h => h) rfl ?_
    refine r_iaddZ (pc := 24) C dX0_endTold_24 ?_
    exact r_iret (pc := 25) C hQ dX0_endTold_25 (Nat.le_of_ble_eq_true rfl) (Nat.le_of_ble_eq_true rfl) (fun G hG => ⟨(by unfold eTold; first | (rw [if_pos h1]; done) | (rw [if_neg h1]; done)), hG⟩)
  · refine r_aload_n (pc := 4) C dX0_endTold_4 rfl rfl ?_
    refine r_getN (pc := 5) (k := 0) (ci := 1) C dX0_endTold_5 (g1 h) (show vwC[1]? = some (RX1, TX1, 4) from rfl) in_X1 (by decide) (C.nf (h1 := "RiverWords") (by decide +kernel)) (fun _ h => h) rfl ?_
    refine r_aload_n (pc := 8) C dX0_endTold_8 rfl rfl ?_
    refine r_getN (pc := 9) (k := 1) (ci := 1) C dX0_endTold_9 (g1 h) (show vwC[1]? = some (RX1, TX1, 4) from rfl) in_X1 (by decide) (C.nf (h1 := "RiverWords") (by decide +kernel)) (fun _ h => h) rfl ?_
    refine r_iaddZ (pc := 12) C dX0_endTold_12 ?_
    refine r_goto (pc := 13) (tgt := 25) C dX0_endTold_13 (by decide) ?_
    exact r_iret (pc := 25) C hQ dX0_endTold_25 (Nat.le_of_ble_eq_true rfl) (Nat.le_of_ble_eq_true rfl) (fun G hG => ⟨(by unfold eTold; first | (rw [if_pos h1]; done) | (rw [if_neg h1]; done)), hG⟩)
set_option maxHeartbeats 800000 in
theorem xo_alikeTold {la : Launch} {X : XE} {G0 : Gh} {xh a a' t t' : Nat} {u o : List Bool} (h : ROAD G0 xh a t u) (h' : ROAD G0 xh a' t' o) (hu : 0 < u.length ∧ u.length ≤ 20) (ho : 0 < o.length ∧ o.length ≤ 20) : MG la X yX0_alikeTold cX0_alikeTold 6 (some .int) (rmk 5 0 0 106) [.ref a, .ref a'] (fun G => G = G0) (fun zv G => zv = some (.int (iI (wTurn u o))) ∧ G = G0) := by
  refine MG.of (by decide +kernel) (Nat.le_of_ble_eq_true rfl) ?_
  intro Z C hX hL hQ
  subst hX; subst hL
  change WW Z 6 (fun G => G = G0) 0 0 0 [some (.ref a), some (.ref a'), none, none, none, none] []
  have loop : ∀ d : Nat, d ≤ u.length → ∀ (T : Int) (v4 v5 : Option Value), T = (if fstN (fun k => allN (fun j => wc u (u.length - d + k + j) == wl o j) u.length) d < d then ((u.length - d + fstN (fun k => allN (fun j => wc u (u.length - d + k + j) == wl o j) u.length) d : Nat) : Int) else NON) → WW Z 6 (fun G => G = G0) 0 0 10 [some (.ref a), some (.ref a'), some (.int (iI (if u.length = o.length then T else NON))), some (.int (iI ((u.length : Nat) - (d : Int) - 1))), v4, v5] [] := by
    refine loopN _ _ (fun d hd ih T v4 v5 hT => ?_)
    have inn : u.length = o.length → d < u.length → WW Z 6 (fun G => G = G0) 0 0 25 [some (.ref a), some (.ref a'), some (.int (iI (if u.length = o.length then T else NON))), some (.int (iI ((u.length : Nat) - (d : Int) - 1))), v4, v5] [] := by
      intro he hdl
      have tail : ∀ (b : Bool) (v5 : Option Value), b = allN (fun j => wc u (u.length - d - 1 + j) == wl o j) u.length → WW Z 6 (fun G => G = G0) 0 0 80 [some (.ref a), some (.ref a'), some (.int (iI (if u.length = o.length then T else NON))), some (.int (iI ((u.length : Nat) - (d : Int) - 1))), some (.int (iI (bi b))), v5] [] := by
        intro b v5 hb
        refine r_iload (pc := 80) C dX0_alikeTold_80 rfl ?_
        refine r_if_eqZ (pc := 82) (tgt := 89) C dX0_alikeTold_82 (by decide) (bi_i _) (fun h82 => ?_) (fun h82 => ?_)
        · refine r_iload_n (pc := 89) C dX0_alikeTold_89 rfl rfl ?_
          refine r_istore_n (pc := 90) C dX0_alikeTold_90 rfl (by decide) ?_
          refine r_iincZ (pc := 91) C dX0_alikeTold_91 rfl (by decide) ?_
          refine r_goto (pc := 94) (tgt := 10) C dX0_alikeTold_94 (by decide) ?_
          rw [show ((u.length : Nat) : Int) - (d : Int) - 1 + (-1) = (u.length : Nat) - ((d + 1 : Nat) : Int) - 1 by omega]
          have L := ih (by omega) _ (some (.int (iI (bi b)))) v5 (lastFirst (p := fun k => allN (fun j => wc u (k + j) == wl o j) u.length) d (by omega) T hT hdl)
          try dsimp only at L
          rw [if_pos he] at L ⊢
          first | (rw [hb.symm.trans (bi_0.mp h82), if_neg (by decide)] at L; exact L) | (rw [hb.symm.trans (bi_n0 h82), if_pos rfl, show ((u.length - d - 1 : Nat) : Int) = (u.length : Nat) - (d : Int) - 1 by omega] at L; exact L)
        · refine r_iload_n (pc := 85) C dX0_alikeTold_85 rfl rfl ?_
          refine r_goto (pc := 86) (tgt := 90) C dX0_alikeTold_86 (by decide) ?_
          refine r_istore_n (pc := 90) C dX0_alikeTold_90 rfl (by decide) ?_
          refine r_iincZ (pc := 91) C dX0_alikeTold_91 rfl (by decide) ?_
          refine r_goto (pc := 94) (tgt := 10) C dX0_alikeTold_94 (by decide) ?_
          rw [show ((u.length : Nat) : Int) - (d : Int) - 1 + (-1) = (u.length : Nat) - ((d + 1 : Nat) : Int) - 1 by omega]
          have L := ih (by omega) _ (some (.int (iI (bi b)))) v5 (lastFirst (p := fun k => allN (fun j => wc u (k + j) == wl o j) u.length) d (by omega) T hT hdl)
          try dsimp only at L
          rw [if_pos he] at L ⊢
          first | (rw [hb.symm.trans (bi_0.mp h82), if_neg (by decide)] at L; exact L) | (rw [hb.symm.trans (bi_n0 h82), if_pos rfl, show ((u.length - d - 1 : Nat) : Int) = (u.length : Nat) - (d : Int) - 1 by omega] at L; exact L)
      have il : ∀ i : Nat, i ≤ u.length → WW Z 6 (fun G => G = G0) 0 0 31 [some (.ref a), some (.ref a'), some (.int (iI (if u.length = o.length then T else NON))), some (.int (iI ((u.length : Nat) - (d : Int) - 1))), some (.int (iI (bi (allN (fun j => wc u (u.length - d - 1 + j) == wl o j) i)))), some (.int (iI (i : Int)))] [] := by
        refine loopN _ _ (fun i hi ihi => ?_)
        have c1 := codeB_b (wc u (u.length - d - 1 + i))
        have c2 := codeB_b (wl o i)
        refine r_iload (pc := 31) C dX0_alikeTold_31 rfl ?_
        refine r_aload_n (pc := 33) C dX0_alikeTold_33 rfl rfl ?_
        refine r_invD (pc := 34) (ci := 4) (owner := "RiverWords$Worded") (x2 := ⟨"RiverWords$Road", "length", "()I"⟩) 0 C dX0_alikeTold_34 (xr_length h) (gRd h) (show vwC[4]? = some (RX4, TX4, 3) from rfl) rfl (lw_meth q690) q100 q688 (by decide +kernel) (by decide +kernel) (by decide +kernel) (by decide +kernel) (by decide +kernel) rfl rfl ⟨Nat.le_of_ble_eq_true rfl, Nat.le_of_ble_eq_true rfl⟩ (Nat.le_of_ble_eq_true rfl) ⟨Nat.le_of_ble_eq_true rfl, Nat.le_of_ble_eq_true rfl⟩ (rd_k ?_)
        refine r_icmp_geZ (pc := 37) (tgt := 80) C dX0_alikeTold_37 (by decide) (by unfold i32; omega) (by unfold i32; omega) (fun h37 => ?_) (fun h37 => ?_)
        · first | (rw [show i = u.length by omega]; exact tail _ _ rfl) | exact tail _ _ (by rw [bi_0.mp h42]; exact (allN_more (bi_0.mp h42) (by omega)).symm)
        · refine r_iload (pc := 40) C dX0_alikeTold_40 rfl ?_
          refine r_if_eqZ (pc := 42) (tgt := 80) C dX0_alikeTold_42 (by decide) (bi_i _) (fun h42 => ?_) (fun h42 => ?_)
          · first | (rw [show i = u.length by omega]; exact tail _ _ rfl) | exact tail _ _ (by rw [bi_0.mp h42]; exact (allN_more (bi_0.mp h42) (by omega)).symm)
          · refine r_aload_n (pc := 45) C dX0_alikeTold_45 rfl rfl ?_
            refine r_iload_n (pc := 46) C dX0_alikeTold_46 rfl rfl ?_
            refine r_iload (pc := 47) C dX0_alikeTold_47 rfl ?_
            refine r_iaddZ (pc := 49) C dX0_alikeTold_49 ?_
            refine r_aload_n (pc := 50) C dX0_alikeTold_50 rfl rfl ?_
            refine r_invD (pc := 51) (ci := 4) (owner := "RiverWords$Worded") (x2 := ⟨"RiverWords$Road", "length", "()I"⟩) 0 C dX0_alikeTold_51 (xr_length h) (gRd h) (show vwC[4]? = some (RX4, TX4, 3) from rfl) rfl (lw_meth q690) q100 q688 (by decide +kernel) (by decide +kernel) (by decide +kernel) (by decide +kernel) (by decide +kernel) rfl rfl ⟨Nat.le_of_ble_eq_true rfl, Nat.le_of_ble_eq_true rfl⟩ (Nat.le_of_ble_eq_true rfl) ⟨Nat.le_of_ble_eq_true rfl, Nat.le_of_ble_eq_true rfl⟩ (rd_k ?_)
            refine r_iremE (pc := 54) C dX0_alikeTold_54 (by unfold i32; omega) (by unfold i32; omega) (by omega) (by omega) ?_
            rw [show ((u.length : Nat) : Int) - (d : Int) - 1 + (i : Int) = ((u.length - d - 1 + i : Nat) : Int) by omega, show ((u.length - d - 1 + i : Nat) : Int) % ((u.length : Nat) : Int) = (((u.length - d - 1 + i) % u.length : Nat) : Int) by push_cast; rfl]
            have hm := Nat.mod_lt (u.length - d - 1 + i) hu.1
            refine r_invD (pc := 55) (ci := 4) (owner := "RiverWords$Worded") (x2 := ⟨"RiverWords$Road", "sign", "(I)C"⟩) 1 C dX0_alikeTold_55 (xr_sign (((u.length - d - 1 + i) % u.length : Nat) : Int) h ⟨by omega, by omega⟩) (gRd h) (show vwC[4]? = some (RX4, TX4, 3) from rfl) rfl (lw_meth q725) q100 q723 (by decide +kernel) (by decide +kernel) (by decide +kernel) (by decide +kernel) (by decide +kernel) rfl rfl ⟨Nat.le_of_ble_eq_true rfl, Nat.le_of_ble_eq_true rfl⟩ (Nat.le_of_ble_eq_true rfl) ⟨Nat.le_of_ble_eq_true rfl, Nat.le_of_ble_eq_true rfl⟩ (rd_k ?_)
            rw [show wl u (((u.length - d - 1 + i) % u.length : Nat) : Int).toNat = wc u (u.length - d - 1 + i) from rfl]
            refine r_aload_n (pc := 58) C dX0_alikeTold_58 rfl rfl ?_
            refine r_iload (pc := 59) C dX0_alikeTold_59 rfl ?_
            refine r_invD (pc := 61) (ci := 4) (owner := "RiverWords$Worded") (x2 := ⟨"RiverWords$Road", "sign", "(I)C"⟩) 1 C dX0_alikeTold_61 (xr_sign (i : Int) h' ⟨by omega, by omega⟩) (gRd h') (show vwC[4]? = some (RX4, TX4, 3) from rfl) rfl (lw_meth q725) q100 q723 (by decide +kernel) (by decide +kernel) (by decide +kernel) (by decide +kernel) (by decide +kernel) rfl rfl ⟨Nat.le_of_ble_eq_true rfl, Nat.le_of_ble_eq_true rfl⟩ (Nat.le_of_ble_eq_true rfl) ⟨Nat.le_of_ble_eq_true rfl, Nat.le_of_ble_eq_true rfl⟩ (rd_k ?_)
            rw [show ((i : Int)).toNat = i from rfl]
            refine r_icmp_neZ (pc := 64) (tgt := 71) C dX0_alikeTold_64 (by decide) (by unfold i32; omega) (by unfold i32; omega) (fun h64 => ?_) (fun h64 => ?_)
            · refine r_iconstZ (pc := 71) C dX0_alikeTold_71 ?_
              refine r_istore (pc := 72) C dX0_alikeTold_72 (by decide) ?_
              refine r_iincZ (pc := 74) C dX0_alikeTold_74 rfl (by decide) ?_
              refine r_goto (pc := 77) (tgt := 31) C dX0_alikeTold_77 (by decide) ?_
              have L := ihi (by omega)
              rw [allN_s, bi_n0 h42, Bool.true_and] at L
              first | (rw [show (wc u (u.length - d - 1 + i) == wl o i) = true from beq_iff_eq.mpr (codeB_inj.mp h64)] at L; exact L) | (rw [show (wc u (u.length - d - 1 + i) == wl o i) = false from beq_eq_false_iff_ne.mpr (fun q => h64 (by rw [q]))] at L; exact L)
            · refine r_iconstZ (pc := 67) C dX0_alikeTold_67 ?_
              refine r_goto (pc := 68) (tgt := 72) C dX0_alikeTold_68 (by decide) ?_
              refine r_istore (pc := 72) C dX0_alikeTold_72 (by decide) ?_
              refine r_iincZ (pc := 74) C dX0_alikeTold_74 rfl (by decide) ?_
              refine r_goto (pc := 77) (tgt := 31) C dX0_alikeTold_77 (by decide) ?_
              have L := ihi (by omega)
              rw [allN_s, bi_n0 h42, Bool.true_and] at L
              first | (rw [show (wc u (u.length - d - 1 + i) == wl o i) = true from beq_iff_eq.mpr (codeB_inj.mp h64)] at L; exact L) | (rw [show (wc u (u.length - d - 1 + i) == wl o i) = false from beq_eq_false_iff_ne.mpr (fun q => h64 (by rw [q]))] at L; exact L)
      refine r_iconstZ (pc := 25) C dX0_alikeTold_25 ?_
      refine r_istore (pc := 26) C dX0_alikeTold_26 (by decide) ?_
      refine r_iconstZ (pc := 28) C dX0_alikeTold_28 ?_
      refine r_istore (pc := 29) C dX0_alikeTold_29 (by decide) ?_
      exact il 0 (Nat.zero_le _)
    refine r_iload_n (pc := 10) C dX0_alikeTold_10 rfl rfl ?_
    refine r_if_ltZ (pc := 11) (tgt := 97) C dX0_alikeTold_11 (by decide) (by unfold i32; omega) (fun h11 => ?_) (fun h11 => ?_)
    · refine r_iload_n (pc := 97) C dX0_alikeTold_97 rfl rfl ?_
      exact r_iret (pc := 98) C hQ dX0_alikeTold_98 (Nat.le_of_ble_eq_true rfl) (Nat.le_of_ble_eq_true rfl) (fun G hG => ⟨(by first | (rw [turn_no T (by omega)]; done) | (rw [turn_of (by omega) hT]; done)), hG⟩)
    · refine r_aload_n (pc := 14) C dX0_alikeTold_14 rfl rfl ?_
      refine r_invD (pc := 15) (ci := 4) (owner := "RiverWords$Worded") (x2 := ⟨"RiverWords$Road", "length", "()I"⟩) 0 C dX0_alikeTold_15 (xr_length h) (gRd h) (show vwC[4]? = some (RX4, TX4, 3) from rfl) rfl (lw_meth q690) q100 q688 (by decide +kernel) (by decide +kernel) (by decide +kernel) (by decide +kernel) (by decide +kernel) rfl rfl ⟨Nat.le_of_ble_eq_true rfl, Nat.le_of_ble_eq_true rfl⟩ (Nat.le_of_ble_eq_true rfl) ⟨Nat.le_of_ble_eq_true rfl, Nat.le_of_ble_eq_true rfl⟩ (rd_k ?_)
      refine r_aload_n (pc := 18) C dX0_alikeTold_18 rfl rfl ?_
      refine r_invD (pc := 19) (ci := 4) (owner := "RiverWords$Worded") (x2 := ⟨"RiverWords$Road", "length", "()I"⟩) 0 C dX0_alikeTold_19 (xr_length h') (gRd h') (show vwC[4]? = some (RX4, TX4, 3) from rfl) rfl (lw_meth q690) q100 q688 (by decide +kernel) (by decide +kernel) (by decide +kernel) (by decide +kernel) (by decide +kernel) rfl rfl ⟨Nat.le_of_ble_eq_true rfl, Nat.le_of_ble_eq_true rfl⟩ (Nat.le_of_ble_eq_true rfl) ⟨Nat.le_of_ble_eq_true rfl, Nat.le_of_ble_eq_true rfl⟩ (rd_k ?_)
      refine r_icmp_neZ (pc := 22) (tgt := 97) C dX0_alikeTold_22 (by decide) (by unfold i32; omega) (by unfold i32; omega) (fun h22 => ?_) (fun h22 => ?_)
      · refine r_iload_n (pc := 97) C dX0_alikeTold_97 rfl rfl ?_
        exact r_iret (pc := 98) C hQ dX0_alikeTold_98 (Nat.le_of_ble_eq_true rfl) (Nat.le_of_ble_eq_true rfl) (fun G hG => ⟨(by first | (rw [turn_no T (by omega)]; done) | (rw [turn_of (by omega) hT]; done)), hG⟩)
      · exact inn (by omega) (by omega)
  refine r_ldcZ (pc := 0) (a := -2000000001) C dX0_alikeTold_0 rfl q863 (by decide) ?_
  refine r_istore_n (pc := 2) C dX0_alikeTold_2 rfl (by decide) ?_
  refine r_aload_n (pc := 3) C dX0_alikeTold_3 rfl rfl ?_
  refine r_invD (pc := 4) (ci := 4) (owner := "RiverWords$Worded") (x2 := ⟨"RiverWords$Road", "length", "()I"⟩) 0 C dX0_alikeTold_4 (xr_length h) (gRd h) (show vwC[4]? = some (RX4, TX4, 3) from rfl) rfl (lw_meth q690) q100 q688 (by decide +kernel) (by decide +kernel) (by decide +kernel) (by decide +kernel) (by decide +kernel) rfl rfl ⟨Nat.le_of_ble_eq_true rfl, Nat.le_of_ble_eq_true rfl⟩ (Nat.le_of_ble_eq_true rfl) ⟨Nat.le_of_ble_eq_true rfl, Nat.le_of_ble_eq_true rfl⟩ (rd_k ?_)
  refine r_iconstZ (pc := 7) C dX0_alikeTold_7 ?_
  refine r_isubZ (pc := 8) C dX0_alikeTold_8 ?_
  refine r_istore_n (pc := 9) C dX0_alikeTold_9 rfl (by decide) ?_
  have L := loop 0 (Nat.zero_le _) NON none none (by rw [if_neg (by omega)])
  rw [show (if u.length = o.length then NON else NON) = NON by split <;> rfl, show ((u.length : Nat) : Int) - ((0 : Nat) : Int) - 1 = (u.length : Nat) - 1 by omega] at L
  exact L
set_option maxHeartbeats 800000 in
theorem pf_floorMod (a n : Int) (ha : i32 a) (hn : 0 < n ∧ n ≤ 2147483647) : PF yJ9_floorMod cJ9_floorMod 3 (some .int) 0 0 [.int (iI a), .int (iI n)] (some (.int (iI (a % n)))) := by
  intro l X Γ
  refine MG.ofF (by decide +kernel) (Nat.le_of_ble_eq_true rfl) ?_
  intro Z C hX hL hQ
  subst hX; subst hL
  change WW Z 3 Γ 0 0 0 [some (.int (iI a)), some (.int (iI n)), none] []
  have hnn : i32 n := by unfold i32; omega
  have ht := Int.tmod_lt_of_pos a hn.1
  have fin1 : 0 ≤ a → WW Z 3 Γ 0 0 18 [some (.int (iI a)), some (.int (iI n)), some (.int (iI (a.tmod n)))] [] := by
    intro h0
    refine r_iload_n (pc := 18) C dJ9_floorMod_18 rfl rfl ?_
    exact r_iret (pc := 19) C hQ dJ9_floorMod_19 (Nat.le_of_ble_eq_true rfl) (Nat.le_of_ble_eq_true rfl) (fun G hG => ⟨hG, (by rw [Int.tmod_eq_emod_of_nonneg h0])⟩)
  have fin2 : a < 0 → WW Z 3 Γ 0 0 10 [some (.int (iI a)), some (.int (iI n)), some (.int (iI (a.tmod n)))] [] := by
    intro h0
    have e := tmod_neg (a := a) (n := n) h0 hn.1
    refine r_iload_n (pc := 10) C dJ9_floorMod_10 rfl rfl ?_
    refine r_if_eqZ (pc := 11) (tgt := 18) C dJ9_floorMod_11 (by decide) (by unfold i32; omega) (fun h11 => ?_) (fun h11 => ?_)
    · refine r_iload_n (pc := 18) C dJ9_floorMod_18 rfl rfl ?_
      exact r_iret (pc := 19) C hQ dJ9_floorMod_19 (Nat.le_of_ble_eq_true rfl) (Nat.le_of_ble_eq_true rfl) (fun G hG => ⟨hG, (by rw [← e.1, h11, if_pos rfl])⟩)
    · refine r_iload_n (pc := 14) C dJ9_floorMod_14 rfl rfl ?_
      refine r_iload_n (pc := 15) C dJ9_floorMod_15 rfl rfl ?_
      refine r_iaddZ (pc := 16) C dJ9_floorMod_16 ?_
      exact r_iret (pc := 17) C hQ dJ9_floorMod_17 (Nat.le_of_ble_eq_true rfl) (Nat.le_of_ble_eq_true rfl) (fun G hG => ⟨hG, (by rw [← e.1, if_neg h11])⟩)
  refine r_iload_n (pc := 0) C dJ9_floorMod_0 rfl rfl ?_
  refine r_iload_n (pc := 1) C dJ9_floorMod_1 rfl rfl ?_
  refine r_iremZ (pc := 2) C dJ9_floorMod_2 ha hnn (by omega) ?_
  refine r_istore_n (pc := 3) C dJ9_floorMod_3 rfl (by decide) ?_
  refine r_iload_n (pc := 4) C dJ9_floorMod_4 rfl rfl ?_
  refine r_iload_n (pc := 5) C dJ9_floorMod_5 rfl rfl ?_
  refine r_ixor (pc := 6) C dJ9_floorMod_6 ?_
  refine r_xorge (pc := 7) (tgt := 18) C dJ9_floorMod_7 (by decide) ha hnn hn.1 fin1 fin2

