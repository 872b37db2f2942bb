/-! the component: roads become others, come, go -/
set_option maxRecDepth 100000
theorem wChanged_len2 {w : List Bool} {k : Int} (h : 0 < w.length ∧ w.length ≤ 20) : 0 < (wChanged w k).length ∧ (wChanged w k).length ≤ 20 := by rw [wChanged_len]; exact h
theorem wTurned_len2 {w : List Bool} {k : Nat} (h : 0 < w.length ∧ w.length ≤ 20) : 0 < (wTurned w k).length ∧ (wTurned w k).length ≤ 20 := by rw [wTurned_len]; exact h
set_option maxHeartbeats 800000 in
theorem xo_turn {la : Launch} {X : XE} {G0 : Gh} {xh : Nat} {x : AS} {A : Nat → Nat} {dr : Int} {rls : List Nat} {rm : Nat} {fls : List Nat} {fm : Nat} {cls : List Nat} {cm : Nat} (h : CW X G0 xh x A dr rls rm fls fm cls cm) (r b : Int) (hr : i32 r) (hb : i32 b) : MG la X yX0_turn cX0_turn 4 (some .int) (rmk 7 30 200 174) [.ref xh, .int (iI r), .int (iI b)] (fun G => G = G0) (fun v G => v = some (.int (iI (sTurn x.ws r b).1)) ∧ COMP X G xh (setws x (sTurn x.ws r b).2) ∧ FR cT G0 G) := by
  refine MG.of (by decide +kernel) (Nat.le_of_ble_eq_true rfl) ?_
  intro Z C hX hL hQ
  subst hX; subst hL
  change WW Z 4 (fun G => G = G0) 0 0 0 [some (.ref xh), some (.int (iI r)), some (.int (iI b)), none] []
  refine r_aload_n (pc := 0) C dX0_turn_0 rfl rfl ?_
  refine r_iload_n (pc := 1) C dX0_turn_1 rfl rfl ?_
  refine r_invV (pc := 2) (ci := 0) 1 C dX0_turn_2 (xo_isRoad h r hr) (g2 h.ob) (show vwC[0]? = some (RX0, TX0, 10) from rfl) rfl (lw_V q665 q667 qs8 q81 q668) (by decide +kernel) rfl rfl ⟨Nat.le_of_ble_eq_true rfl, Nat.le_of_ble_eq_true rfl⟩ (Nat.le_of_ble_eq_true rfl) ⟨(by first | exact Nat.le_of_ble_eq_true rfl | (dsimp only [rmk]; omega) | omega), (by first | exact Nat.le_of_ble_eq_true rfl | (dsimp only [rmk]; omega) | omega)⟩ (rd_k ?_)
  refine r_if_neB (pc := 5) (tgt := 11) C dX0_turn_5 (by decide)  (fun h5 => ?_) (fun h5 => ?_)
  · refine r_aload_n (pc := 11) C dX0_turn_11 rfl rfl ?_
    refine r_get (pc := 12) (k := 3) (ci := 0) C dX0_turn_12 (g1 h.ob) (show vwC[0]? = some (RX0, TX0, 10) from rfl) in_X0 (by decide) (C.t _ q278) (fun _ h => h) rfl ?_
    refine r_iload_n (pc := 15) C dX0_turn_15 rfl rfl ?_
    refine r_invV (pc := 16) (ci := 8) 1 C dX0_turn_16 (jl_get r h.rl (h.rix h5)) (gLs h.rl) (show vwC[8]? = some (RJ6, TJ6, 3) from rfl) rfl (lw_V q670 q671 q672 q89 q673) (by decide +kernel) rfl rfl ⟨Nat.le_of_ble_eq_true rfl, Nat.le_of_ble_eq_true rfl⟩ (Nat.le_of_ble_eq_true rfl) ⟨(by first | exact Nat.le_of_ble_eq_true rfl | (dsimp only [rmk]; omega) | omega), (by first | exact Nat.le_of_ble_eq_true rfl | (dsimp only [rmk]; omega) | omega)⟩ (rd_k ?_)
    refine r_castO (pc := 19) (ci := 4) C dX0_turn_19 (gRd (h.road h5)) (show vwC[4]? = some (RX4, TX4, 3) from rfl) q584 ?_
    refine r_astore_n (pc := 22) C dX0_turn_22 rfl (by decide) ?_
    refine r_iload_n (pc := 23) C dX0_turn_23 rfl rfl ?_
    refine r_iconstZ (pc := 24) C dX0_turn_24 ?_
    refine r_aload_n (pc := 25) C dX0_turn_25 rfl rfl ?_
    refine r_invD (pc := 26) (ci := 4) (owner := "RiverWords$Worded") (x2 := ⟨"RiverWords$Road", "length", "()I"⟩) 0 C dX0_turn_26 (xr_length (h.road h5)) (gRd (h.road h5)) (show vwC[4]? = some (RX4, TX4, 3) from rfl) rfl (lw_meth q690) q100 q688 (by decide +kernel) (by decide +kernel) (by decide +kernel) (by decide +kernel) (by decide +kernel) rfl rfl ⟨Nat.le_of_ble_eq_true rfl, Nat.le_of_ble_eq_true rfl⟩ (Nat.le_of_ble_eq_true rfl) ⟨(by first | exact Nat.le_of_ble_eq_true rfl | (dsimp only [rmk]; omega) | omega), (by first | exact Nat.le_of_ble_eq_true rfl | (dsimp only [rmk]; omega) | omega)⟩ (rd_k ?_)
    refine r_iconstZ (pc := 29) C dX0_turn_29 ?_
    refine r_isubZ (pc := 30) C dX0_turn_30 ?_
    refine r_invP (pc := 31) 3 C dX0_turn_31 (xf_in b 0 (((wsat x.ws r).length : Nat) - 1) hb i32_0 (by have := (h.rk.at h5).2; unfold i32; omega)) rfl (lw_S q311 q312 q81 q313) (by decide +kernel) rfl rfl ⟨Nat.le_of_ble_eq_true rfl, Nat.le_of_ble_eq_true rfl⟩ (Nat.le_of_ble_eq_true rfl) ⟨(by first | exact Nat.le_of_ble_eq_true rfl | (dsimp only [rmk]; omega) | omega), (by first | exact Nat.le_of_ble_eq_true rfl | (dsimp only [rmk]; omega) | omega)⟩ ?_
    refine r_if_neB (pc := 34) (tgt := 40) C dX0_turn_34 (by decide)  (fun h34 => ?_) (fun h34 => ?_)
    · refine r_aload_n (pc := 40) C dX0_turn_40 rfl rfl ?_
      refine r_aload_n (pc := 41) C dX0_turn_41 rfl rfl ?_
      obtain ⟨s, tb, k1, k2, k3⟩ := id (h.road h5)
      have hw := h.rk.at h5
      have hrn : r.toNat < x.ws.length := (by omega)
      refine r_getN (pc := 42) (k := 0) (ci := 4) C dX0_turn_42 (g1 k1) (show vwC[4]? = some (RX4, TX4, 3) from rfl) in_X4 (by decide) (C.nf (h1 := "RiverWords") (by decide +kernel)) (fun _ h => h) rfl ?_
      refine r_iload_n (pc := 45) C dX0_turn_45 rfl rfl ?_
      rw [show iI b = iI ((b.toNat : Nat) : Int) by rw [Int.toNat_of_nonneg h34.1]]
      refine r_invS (pc := 46) 2 C dX0_turn_46 (xw_turned b.toNat k2 hw (by omega)) rfl (lw_S q884 q772 q100 q773) (by decide +kernel) rfl rfl ⟨Nat.le_of_ble_eq_true rfl, Nat.le_of_ble_eq_true rfl⟩ (Nat.le_of_ble_eq_true rfl) ⟨(by first | exact Nat.le_of_ble_eq_true rfl | (dsimp only [rmk]; omega) | omega), (by first | exact Nat.le_of_ble_eq_true rfl | (dsimp only [rmk]; omega) | omega)⟩ (fun v46 G46 h46 => ?_)
      obtain ⟨y, rfl, q1, q2⟩ := h46
      have h2 := h.fr q2 (by simp)
      obtain ⟨s', tb', k1', -, -⟩ := h2.road h5
      refine r_invV (pc := 49) (ci := 4) 1 C dX0_turn_49 (xo_layR h2.xo q1 (by rw [wTurned_len]; exact hw.2) k1' (by decide)) (g2 k1') (show vwC[4]? = some (RX4, TX4, 3) from rfl) rfl (lw_V q885 q591 q592 q98 q593) (by decide +kernel) rfl rfl ⟨Nat.le_of_ble_eq_true rfl, Nat.le_of_ble_eq_true rfl⟩ (Nat.le_of_ble_eq_true rfl) ⟨(by first | exact Nat.le_of_ble_eq_true rfl | (dsimp only [rmk]; omega) | omega), (by first | exact Nat.le_of_ble_eq_true rfl | (dsimp only [rmk]; omega) | omega)⟩ (fun v49 G49 h49 => ?_)
      obtain ⟨rfl, q3, q4, q5⟩ := h49
      have h3 := h2.roads q4 (by simp) (h2.rl.fr q4 (by decide) (by decide)) h2.hmr (h2.rs.set hrn q4 q5 q3) (h2.rk.set hrn (wTurned_len2 hw))
      refine r_aload_n (pc := 52) C dX0_turn_52 rfl rfl ?_
      refine r_invV (pc := 53) (ci := 4) 0 C dX0_turn_53 (xr_period q3 (wTurned_len2 hw)) (gRd q3) (show vwC[4]? = some (RX4, TX4, 3) from rfl) rfl (lw_V q729 q730 q731 q98 q732) (by decide +kernel) rfl rfl ⟨Nat.le_of_ble_eq_true rfl, Nat.le_of_ble_eq_true rfl⟩ (Nat.le_of_ble_eq_true rfl) ⟨(by first | exact Nat.le_of_ble_eq_true rfl | (dsimp only [rmk]; omega) | omega), (by first | exact Nat.le_of_ble_eq_true rfl | (dsimp only [rmk]; omega) | omega)⟩ (rd_k ?_)
      rw [wPeriod_turned _ _ hw.1]
      exact r_iret (pc := 56) C hQ dX0_turn_56 (by first | exact Nat.le_of_ble_eq_true rfl | (dsimp only [rmk]; omega) | omega) (by first | exact Nat.le_of_ble_eq_true rfl | (dsimp only [rmk]; omega) | omega) (fun G hG => (by cases hG; unfold sTurn; rw [if_pos h5, if_pos h34]; exact ⟨rfl, h3.comp, (q2.wk (by decide)).tr (q4.wk (by decide))⟩))
    · refine r_ldcZ (pc := 37) (a := -2000000102) C dX0_turn_37 rfl q314 (by decide) ?_
      exact r_iret (pc := 39) C hQ dX0_turn_39 (by first | exact Nat.le_of_ble_eq_true rfl | (dsimp only [rmk]; omega) | omega) (by first | exact Nat.le_of_ble_eq_true rfl | (dsimp only [rmk]; omega) | omega) (fun G hG => (by cases hG; unfold sTurn; rw [if_pos h5, if_neg h34]; exact ⟨rfl, h.comp, FR.rf⟩))
  · refine r_ldcZ (pc := 8) (a := -2000000101) C dX0_turn_8 rfl q669 (by decide) ?_
    exact r_iret (pc := 10) C hQ dX0_turn_10 (by first | exact Nat.le_of_ble_eq_true rfl | (dsimp only [rmk]; omega) | omega) (by first | exact Nat.le_of_ble_eq_true rfl | (dsimp only [rmk]; omega) | omega) (fun G hG => (by cases hG; unfold sTurn; rw [if_neg h5]; exact ⟨rfl, h.comp, FR.rf⟩))
set_option maxHeartbeats 800000 in
theorem xo_change {la : Launch} {X : XE} {G0 : Gh} {xh : Nat} {x : AS} {A : Nat → Nat} {dr : Int} {rls : List Nat} {rm : Nat} {fls : List Nat} {fm : Nat} {cls : List Nat} {cm : Nat} (h : CW X G0 xh x A dr rls rm fls fm cls cm) (r k : Int) (hr : i32 r) (hk : i32 k) : MG la X yX0_change cX0_change 4 (some .int) (rmk 9 30 200 215) [.ref xh, .int (iI r), .int (iI k)] (fun G => G = G0) (fun v G => v = some (.int (iI (sChange x.ws r k).1)) ∧ COMP X G xh (setws x (sChange x.ws r k).2) ∧ FR cT G0 G) := by
  refine MG.of (by decide +kernel) (Nat.le_of_ble_eq_true rfl) ?_
  intro Z C hX hL hQ
  subst hX; subst hL
  change WW Z 4 (fun G => G = G0) 0 0 0 [some (.ref xh), some (.int (iI r)), some (.int (iI k)), none] []
  refine r_aload_n (pc := 0) C dX0_change_0 rfl rfl ?_
  refine r_iload_n (pc := 1) C dX0_change_1 rfl rfl ?_
  refine r_invV (pc := 2) (ci := 0) 1 C dX0_change_2 (xo_isRoad h r hr) (g2 h.ob) (show vwC[0]? = some (RX0, TX0, 10) from rfl) rfl (lw_V q665 q667 qs8 q81 q668) (by decide +kernel) rfl rfl ⟨Nat.le_of_ble_eq_true rfl, Nat.le_of_ble_eq_true rfl⟩ (Nat.le_of_ble_eq_true rfl) ⟨(by first | exact Nat.le_of_ble_eq_true rfl | (dsimp only [rmk]; omega) | omega), (by first | exact Nat.le_of_ble_eq_true rfl | (dsimp only [rmk]; omega) | omega)⟩ (rd_k ?_)
  refine r_if_neB (pc := 5) (tgt := 11) C dX0_change_5 (by decide)  (fun h5 => ?_) (fun h5 => ?_)
  · refine r_iload_n (pc := 11) C dX0_change_11 rfl rfl ?_
    refine r_iconstZ (pc := 12) C dX0_change_12 ?_
    refine r_iconstZ (pc := 13) C dX0_change_13 ?_
    refine r_invP (pc := 14) 3 C dX0_change_14 (xf_in k 0 2 hk i32_0 (by unfold i32; omega)) rfl (lw_S q311 q312 q81 q313) (by decide +kernel) rfl rfl ⟨Nat.le_of_ble_eq_true rfl, Nat.le_of_ble_eq_true rfl⟩ (Nat.le_of_ble_eq_true rfl) ⟨(by first | exact Nat.le_of_ble_eq_true rfl | (dsimp only [rmk]; omega) | omega), (by first | exact Nat.le_of_ble_eq_true rfl | (dsimp only [rmk]; omega) | omega)⟩ ?_
    refine r_if_neB (pc := 17) (tgt := 23) C dX0_change_17 (by decide)  (fun h17 => ?_) (fun h17 => ?_)
    · refine r_aload_n (pc := 23) C dX0_change_23 rfl rfl ?_
      refine r_get (pc := 24) (k := 3) (ci := 0) C dX0_change_24 (g1 h.ob) (show vwC[0]? = some (RX0, TX0, 10) from rfl) in_X0 (by decide) (C.t _ q278) (fun _ h => h) rfl ?_
      refine r_iload_n (pc := 27) C dX0_change_27 rfl rfl ?_
      refine r_invV (pc := 28) (ci := 8) 1 C dX0_change_28 (jl_get r h.rl (h.rix h5)) (gLs h.rl) (show vwC[8]? = some (RJ6, TJ6, 3) from rfl) rfl (lw_V q670 q671 q672 q89 q673) (by decide +kernel) rfl rfl ⟨Nat.le_of_ble_eq_true rfl, Nat.le_of_ble_eq_true rfl⟩ (Nat.le_of_ble_eq_true rfl) ⟨(by first | exact Nat.le_of_ble_eq_true rfl | (dsimp only [rmk]; omega) | omega), (by first | exact Nat.le_of_ble_eq_true rfl | (dsimp only [rmk]; omega) | omega)⟩ (rd_k ?_)
      refine r_castO (pc := 31) (ci := 4) C dX0_change_31 (gRd (h.road h5)) (show vwC[4]? = some (RX4, TX4, 3) from rfl) q584 ?_
      refine r_astore_n (pc := 34) C dX0_change_34 rfl (by decide) ?_
      refine r_aload_n (pc := 35) C dX0_change_35 rfl rfl ?_
      refine r_aload_n (pc := 36) C dX0_change_36 rfl rfl ?_
      obtain ⟨s, tb, k1, k2, k3⟩ := id (h.road h5)
      have hw := h.rk.at h5
      have hrn : r.toNat < x.ws.length := (by omega)
      refine r_getN (pc := 37) (k := 0) (ci := 4) C dX0_change_37 (g1 k1) (show vwC[4]? = some (RX4, TX4, 3) from rfl) in_X4 (by decide) (C.nf (h1 := "RiverWords") (by decide +kernel)) (fun _ h => h) rfl ?_
      refine r_iload_n (pc := 40) C dX0_change_40 rfl rfl ?_
      refine r_invS (pc := 41) 2 C dX0_change_41 (xo_changed k k2 hw h17) rfl (lw_S q890 q891 q81 q892) (by decide +kernel) rfl rfl ⟨Nat.le_of_ble_eq_true rfl, Nat.le_of_ble_eq_true rfl⟩ (Nat.le_of_ble_eq_true rfl) ⟨(by first | exact Nat.le_of_ble_eq_true rfl | (dsimp only [rmk]; omega) | omega), (by first | exact Nat.le_of_ble_eq_true rfl | (dsimp only [rmk]; omega) | omega)⟩ (fun v41 G41 h41 => ?_)
      obtain ⟨y, rfl, q1, q2⟩ := h41
      have h2 := h.fr q2 (by simp)
      obtain ⟨s', tb', k1', -, -⟩ := h2.road h5
      refine r_invV (pc := 44) (ci := 4) 1 C dX0_change_44 (xo_layR h2.xo q1 (wChanged_len2 hw).2 k1' (by decide)) (g2 k1') (show vwC[4]? = some (RX4, TX4, 3) from rfl) rfl (lw_V q885 q591 q592 q98 q593) (by decide +kernel) rfl rfl ⟨Nat.le_of_ble_eq_true rfl, Nat.le_of_ble_eq_true rfl⟩ (Nat.le_of_ble_eq_true rfl) ⟨(by first | exact Nat.le_of_ble_eq_true rfl | (dsimp only [rmk]; omega) | omega), (by first | exact Nat.le_of_ble_eq_true rfl | (dsimp only [rmk]; omega) | omega)⟩ (fun v44 G44 h44 => ?_)
      obtain ⟨rfl, q3, q4, q5⟩ := h44
      have h3 := h2.roads q4 (by simp) (h2.rl.fr q4 (by decide) (by decide)) h2.hmr (h2.rs.set hrn q4 q5 q3) (h2.rk.set hrn (wChanged_len2 hw))
      obtain ⟨s3, tb3, m1, m2, m3⟩ := id q3
      refine r_aload_n (pc := 47) C dX0_change_47 rfl rfl ?_
      refine r_getN (pc := 48) (k := 1) (ci := 4) C dX0_change_48 (g1 m1) (show vwC[4]? = some (RX4, TX4, 3) from rfl) in_X4 (by decide) (C.nf (h1 := "RiverWords") (by decide +kernel)) (fun _ h => h) rfl ?_
      refine r_invV (pc := 51) (ci := 1) 0 C dX0_change_51 (xt_trace m3) (g2 m3) (show vwC[1]? = some (RX1, TX1, 4) from rfl) rfl (lw_V q741 q742 q743 q82 q744) (by decide +kernel) rfl rfl ⟨Nat.le_of_ble_eq_true rfl, Nat.le_of_ble_eq_true rfl⟩ (Nat.le_of_ble_eq_true rfl) ⟨(by first | exact Nat.le_of_ble_eq_true rfl | (dsimp only [rmk]; omega) | omega), (by first | exact Nat.le_of_ble_eq_true rfl | (dsimp only [rmk]; omega) | omega)⟩ (rd_k ?_)
      exact r_iret (pc := 54) C hQ dX0_change_54 (by first | exact Nat.le_of_ble_eq_true rfl | (dsimp only [rmk]; omega) | omega) (by first | exact Nat.le_of_ble_eq_true rfl | (dsimp only [rmk]; omega) | omega) (fun G hG => (by cases hG; unfold sChange; rw [if_pos h5, if_pos h17]; exact ⟨rfl, h3.comp, (q2.wk (by decide)).tr (q4.wk (by decide))⟩))
    · refine r_ldcZ (pc := 20) (a := -2000000102) C dX0_change_20 rfl q314 (by decide) ?_
      exact r_iret (pc := 22) C hQ dX0_change_22 (by first | exact Nat.le_of_ble_eq_true rfl | (dsimp only [rmk]; omega) | omega) (by first | exact Nat.le_of_ble_eq_true rfl | (dsimp only [rmk]; omega) | omega) (fun G hG => (by cases hG; unfold sChange; rw [if_pos h5, if_neg h17]; exact ⟨rfl, h.comp, FR.rf⟩))
  · refine r_ldcZ (pc := 8) (a := -2000000101) C dX0_change_8 rfl q669 (by decide) ?_
    exact r_iret (pc := 10) C hQ dX0_change_10 (by first | exact Nat.le_of_ble_eq_true rfl | (dsimp only [rmk]; omega) | omega) (by first | exact Nat.le_of_ble_eq_true rfl | (dsimp only [rmk]; omega) | omega) (fun G hG => (by cases hG; unfold sChange; rw [if_neg h5]; exact ⟨rfl, h.comp, FR.rf⟩))
set_option maxHeartbeats 800000 in
theorem xo_join {la : Launch} {X : XE} {G0 : Gh} {xh : Nat} {x : AS} {A : Nat → Nat} {dr : Int} {rls : List Nat} {rm : Nat} {fls : List Nat} {fm : Nat} {cls : List Nat} {cm : Nat} (h : CW X G0 xh x A dr rls rm fls fm cls cm) (r q : Int) (hr : i32 r) (hq : i32 q) : MG la X yX0_join cX0_join 3 (some .int) (rmk 8 30 400 192) [.ref xh, .int (iI r), .int (iI q)] (fun G => G = G0) (fun v G => v = some (.int (iI (sJoin x.ws r q).1)) ∧ COMP X G xh (setws x (sJoin x.ws r q).2) ∧ FR cT G0 G) := by
  refine MG.of (by decide +kernel) (Nat.le_of_ble_eq_true rfl) ?_
  intro Z C hX hL hQ
  subst hX; subst hL
  change WW Z 3 (fun G => G = G0) 0 0 0 [some (.ref xh), some (.int (iI r)), some (.int (iI q))] []
  refine r_aload_n (pc := 0) C dX0_join_0 rfl rfl ?_
  refine r_iload_n (pc := 1) C dX0_join_1 rfl rfl ?_
  refine r_invV (pc := 2) (ci := 0) 1 C dX0_join_2 (xo_isRoad h r hr) (g2 h.ob) (show vwC[0]? = some (RX0, TX0, 10) from rfl) rfl (lw_V q665 q667 qs8 q81 q668) (by decide +kernel) rfl rfl ⟨Nat.le_of_ble_eq_true rfl, Nat.le_of_ble_eq_true rfl⟩ (Nat.le_of_ble_eq_true rfl) ⟨(by first | exact Nat.le_of_ble_eq_true rfl | (dsimp only [rmk]; omega) | omega), (by first | exact Nat.le_of_ble_eq_true rfl | (dsimp only [rmk]; omega) | omega)⟩ (rd_k ?_)
  refine r_if_eqB (pc := 5) (tgt := 67) C dX0_join_5 (by decide)  (fun h5 => ?_) (fun h5 => ?_)
  · refine r_ldcZ (pc := 67) (a := -2000000101) C dX0_join_67 rfl q669 (by decide) ?_
    exact r_iret (pc := 69) C hQ dX0_join_69 (by first | exact Nat.le_of_ble_eq_true rfl | (dsimp only [rmk]; omega)) (by first | exact Nat.le_of_ble_eq_true rfl | (dsimp only [rmk]; omega)) (fun G hG => (by cases hG; unfold sJoin; first | (rw [if_neg h5]; exact ⟨rfl, h.comp, FR.rf⟩) | (rw [if_pos h5, if_neg h13]; exact ⟨rfl, h.comp, FR.rf⟩) | (rw [if_pos h5, if_pos h13]; exact ⟨rfl, h5'.comp, ((((f1.wk (by decide)).tr (q4.wk (by decide))).tr (q6.wk (by decide))).tr (r2.nil _)).tr (f3.wk (by decide))⟩)))
  · refine r_aload_n (pc := 8) C dX0_join_8 rfl rfl ?_
    refine r_iload_n (pc := 9) C dX0_join_9 rfl rfl ?_
    refine r_invV (pc := 10) (ci := 0) 1 C dX0_join_10 (xo_isRoad h q hq) (g2 h.ob) (show vwC[0]? = some (RX0, TX0, 10) from rfl) rfl (lw_V q665 q667 qs8 q81 q668) (by decide +kernel) rfl rfl ⟨Nat.le_of_ble_eq_true rfl, Nat.le_of_ble_eq_true rfl⟩ (Nat.le_of_ble_eq_true rfl) ⟨(by first | exact Nat.le_of_ble_eq_true rfl | (dsimp only [rmk]; omega) | omega), (by first | exact Nat.le_of_ble_eq_true rfl | (dsimp only [rmk]; omega) | omega)⟩ (rd_k ?_)
    refine r_if_eqB (pc := 13) (tgt := 67) C dX0_join_13 (by decide)  (fun h13 => ?_) (fun h13 => ?_)
    · refine r_ldcZ (pc := 67) (a := -2000000101) C dX0_join_67 rfl q669 (by decide) ?_
      exact r_iret (pc := 69) C hQ dX0_join_69 (by first | exact Nat.le_of_ble_eq_true rfl | (dsimp only [rmk]; omega)) (by first | exact Nat.le_of_ble_eq_true rfl | (dsimp only [rmk]; omega)) (fun G hG => (by cases hG; unfold sJoin; first | (rw [if_neg h5]; exact ⟨rfl, h.comp, FR.rf⟩) | (rw [if_pos h5, if_neg h13]; exact ⟨rfl, h.comp, FR.rf⟩) | (rw [if_pos h5, if_pos h13]; exact ⟨rfl, h5'.comp, ((((f1.wk (by decide)).tr (q4.wk (by decide))).tr (q6.wk (by decide))).tr (r2.nil _)).tr (f3.wk (by decide))⟩)))
    · refine r_aload_n (pc := 16) C dX0_join_16 rfl rfl ?_
      refine r_newE (pc := 17) (ci := 9) (fs := [.null, .int (iI 0), .int (iI 0), .int (iI 0)]) 9 C dX0_join_17 (show vwC[9]? = some (RJ8, TJ8, 4) from rfl) in_J8 tyJ8 tyJ8_ok q244 q245 q91 (by decide +kernel) (by first | exact Nat.le_of_ble_eq_true rfl | (dsimp only [rmk]; omega) | omega) (by first | exact Nat.le_of_ble_eq_true rfl | (dsimp only [rmk]; omega) | omega) (fun a17 n17 => ?_)
      refine r_dup (pc := 20) C dX0_join_20 rfl ?_
      refine r_invI (pc := 21) 0 C dX0_join_21 (jb_init16 (gup_eq _ _ _) (by decide)) rfl (lw_meth q900) q91 q898 q899 rfl (by decide +kernel) rfl rfl ⟨Nat.le_of_ble_eq_true rfl, Nat.le_of_ble_eq_true rfl⟩ (Nat.le_of_ble_eq_true rfl) ⟨(by first | exact Nat.le_of_ble_eq_true rfl | (dsimp only [rmk]; omega) | omega), (by first | exact Nat.le_of_ble_eq_true rfl | (dsimp only [rmk]; omega) | omega)⟩ (fun v21 G21 h21 => ?_)
      obtain ⟨rfl, q1, q2⟩ := h21
      have f1 := (FR.new (ts := [9]) n17).tr q2
      have h1 := h.fr f1 (by simp)
      obtain ⟨s, tb, k1, k2, k3⟩ := id (h1.road h5)
      have hw := h.rk.at h5
      have hw' := h.rk.at h13
      refine r_aload_n (pc := 24) C dX0_join_24 rfl rfl ?_
      refine r_get (pc := 25) (k := 3) (ci := 0) C dX0_join_25 (g1 h1.ob) (show vwC[0]? = some (RX0, TX0, 10) from rfl) in_X0 (by decide) (C.t _ q278) (fun _ h => h) rfl ?_
      refine r_iload_n (pc := 28) C dX0_join_28 rfl rfl ?_
      refine r_invV (pc := 29) (ci := 8) 1 C dX0_join_29 (jl_get r h1.rl (h1.rix h5)) (gLs h1.rl) (show vwC[8]? = some (RJ6, TJ6, 3) from rfl) rfl (lw_V q670 q671 q672 q89 q673) (by decide +kernel) rfl rfl ⟨Nat.le_of_ble_eq_true rfl, Nat.le_of_ble_eq_true rfl⟩ (Nat.le_of_ble_eq_true rfl) ⟨(by first | exact Nat.le_of_ble_eq_true rfl | (dsimp only [rmk]; omega) | omega), (by first | exact Nat.le_of_ble_eq_true rfl | (dsimp only [rmk]; omega) | omega)⟩ (rd_k ?_)
      refine r_castO (pc := 32) (ci := 4) C dX0_join_32 (gRd (h1.road h5)) (show vwC[4]? = some (RX4, TX4, 3) from rfl) q584 ?_
      refine r_getN (pc := 35) (k := 0) (ci := 4) C dX0_join_35 (g1 k1) (show vwC[4]? = some (RX4, TX4, 3) from rfl) in_X4 (by decide) (C.nf (h1 := "RiverWords") (by decide +kernel)) (fun _ h => h) rfl ?_
      refine r_invV (pc := 38) (ci := 9) 1 C dX0_join_38 (jb_apps q1 k2 (by decide) (by rw [txt_len, List.length_nil]; omega) (by omega)) (gB q1) (show vwC[9]? = some (RJ8, TJ8, 4) from rfl) rfl (lw_V q901 q902 q903 q91 q904) (by decide +kernel) rfl rfl ⟨Nat.le_of_ble_eq_true rfl, Nat.le_of_ble_eq_true rfl⟩ (Nat.le_of_ble_eq_true rfl) ⟨(by first | exact Nat.le_of_ble_eq_true rfl | (dsimp only [rmk]; omega) | omega), (by first | exact Nat.le_of_ble_eq_true rfl | (dsimp only [rmk]; omega) | omega)⟩ (fun v38 G38 h38 => ?_)
      obtain ⟨rfl, ⟨m', hm', q3⟩, q4⟩ := h38
      rw [txt_len] at hm'
      simp only [List.length_nil, Nat.zero_add] at hm'
      rw [List.nil_append] at q3
      have h2 := h1.fr q4 (by simp)
      obtain ⟨s', tb', k1', k2', k3'⟩ := id (h2.road h13)
      refine r_aload_n (pc := 41) C dX0_join_41 rfl rfl ?_
      refine r_get (pc := 42) (k := 3) (ci := 0) C dX0_join_42 (g1 h2.ob) (show vwC[0]? = some (RX0, TX0, 10) from rfl) in_X0 (by decide) (C.t _ q278) (fun _ h => h) rfl ?_
      refine r_iload_n (pc := 45) C dX0_join_45 rfl rfl ?_
      refine r_invV (pc := 46) (ci := 8) 1 C dX0_join_46 (jl_get q h2.rl (h2.rix h13)) (gLs h2.rl) (show vwC[8]? = some (RJ6, TJ6, 3) from rfl) rfl (lw_V q670 q671 q672 q89 q673) (by decide +kernel) rfl rfl ⟨Nat.le_of_ble_eq_true rfl, Nat.le_of_ble_eq_true rfl⟩ (Nat.le_of_ble_eq_true rfl) ⟨(by first | exact Nat.le_of_ble_eq_true rfl | (dsimp only [rmk]; omega) | omega), (by first | exact Nat.le_of_ble_eq_true rfl | (dsimp only [rmk]; omega) | omega)⟩ (rd_k ?_)
      refine r_castO (pc := 49) (ci := 4) C dX0_join_49 (gRd (h2.road h13)) (show vwC[4]? = some (RX4, TX4, 3) from rfl) q584 ?_
      refine r_getN (pc := 52) (k := 0) (ci := 4) C dX0_join_52 (g1 k1') (show vwC[4]? = some (RX4, TX4, 3) from rfl) in_X4 (by decide) (C.nf (h1 := "RiverWords") (by decide +kernel)) (fun _ h => h) rfl ?_
      refine r_invV (pc := 55) (ci := 9) 1 C dX0_join_55 (jb_apps q3 k2' (by decide) (by rw [txt_len, txt_len]; omega) (by omega)) (gB q3) (show vwC[9]? = some (RJ8, TJ8, 4) from rfl) rfl (lw_V q901 q902 q903 q91 q904) (by decide +kernel) rfl rfl ⟨Nat.le_of_ble_eq_true rfl, Nat.le_of_ble_eq_true rfl⟩ (Nat.le_of_ble_eq_true rfl) ⟨(by first | exact Nat.le_of_ble_eq_true rfl | (dsimp only [rmk]; omega) | omega), (by first | exact Nat.le_of_ble_eq_true rfl | (dsimp only [rmk]; omega) | omega)⟩ (fun v55 G55 h55 => ?_)
      obtain ⟨rfl, ⟨m2, -, q5⟩, q6⟩ := h55
      rw [← txt_app] at q5
      have h3 := h2.fr q6 (by simp)
      refine r_invV (pc := 58) (ci := 9) 0 C dX0_join_58 (xb_toString q5 (by decide)) (gB q5) (show vwC[9]? = some (RJ8, TJ8, 4) from rfl) rfl (lw_V q523 q524 q525 q91 q526) (by decide +kernel) rfl rfl ⟨Nat.le_of_ble_eq_true rfl, Nat.le_of_ble_eq_true rfl⟩ (Nat.le_of_ble_eq_true rfl) ⟨by dsimp only [rmk]; omega, by dsimp only [rmk]; rw [List.length_append]; omega⟩ (fun v58 G58 h58 => ?_)
      obtain ⟨z, rfl, r1, r2⟩ := h58
      have h4 := h3.fr r2 (by simp)
      have hl2 : (wsat x.ws r ++ wsat x.ws q).length ≤ 40 := (by rw [List.length_append]; omega)
      have hl3 : 0 < (wsat x.ws r ++ wsat x.ws q).length := (by rw [List.length_append]; omega)
      refine r_invV (pc := 61) (ci := 0) 1 C dX0_join_61 (xo_comes h4 r1 ⟨hl3, by omega⟩) (g2 h4.ob) (show vwC[0]? = some (RX0, TX0, 10) from rfl) rfl (lw_V q575 q577 qs3 q81 q578) (by decide +kernel) rfl rfl ⟨Nat.le_of_ble_eq_true rfl, Nat.le_of_ble_eq_true rfl⟩ (Nat.le_of_ble_eq_true rfl) ⟨by dsimp only [rmk]; omega, by dsimp only [rmk]; omega⟩ (fun v61 G61 h61 => ?_)
      obtain ⟨rfl, ⟨rls', rm', h5'⟩, f3⟩ := h61
      refine r_goto (pc := 64) (tgt := 69) C dX0_join_64 (by decide) ?_
      exact r_iret (pc := 69) C hQ dX0_join_69 (by first | exact Nat.le_of_ble_eq_true rfl | (dsimp only [rmk]; omega)) (by first | exact Nat.le_of_ble_eq_true rfl | (dsimp only [rmk]; omega)) (fun G hG => (by cases hG; unfold sJoin; first | (rw [if_neg h5]; exact ⟨rfl, h.comp, FR.rf⟩) | (rw [if_pos h5, if_neg h13]; exact ⟨rfl, h.comp, FR.rf⟩) | (rw [if_pos h5, if_pos h13]; exact ⟨rfl, h5'.comp, ((((f1.wk (by decide)).tr (q4.wk (by decide))).tr (q6.wk (by decide))).tr (r2.nil _)).tr (f3.wk (by decide))⟩)))
set_option maxHeartbeats 800000 in
theorem xo_times {la : Launch} {X : XE} {G0 : Gh} {xh : Nat} {x : AS} {A : Nat → Nat} {dr : Int} {rls : List Nat} {rm : Nat} {fls : List Nat} {fm : Nat} {cls : List Nat} {cm : Nat} (h : CW X G0 xh x A dr rls rm fls fm cls cm) (r n : Int) (hr : i32 r) (hn : i32 n) : MG la X yX0_times cX0_times 3 (some .int) (rmk 8 30 400 192) [.ref xh, .int (iI r), .int (iI n)] (fun G => G = G0) (fun v G => v = some (.int (iI (sTimes x.ws r n).1)) ∧ COMP X G xh (setws x (sTimes x.ws r n).2) ∧ FR cT G0 G) := by
  refine MG.of (by decide +kernel) (Nat.le_of_ble_eq_true rfl) ?_
  intro Z C hX hL hQ
  subst hX; subst hL
  change WW Z 3 (fun G => G = G0) 0 0 0 [some (.ref xh), some (.int (iI r)), some (.int (iI n))] []
  refine r_aload_n (pc := 0) C dX0_times_0 rfl rfl ?_
  refine r_iload_n (pc := 1) C dX0_times_1 rfl rfl ?_
  refine r_invV (pc := 2) (ci := 0) 1 C dX0_times_2 (xo_isRoad h r hr) (g2 h.ob) (show vwC[0]? = some (RX0, TX0, 10) from rfl) rfl (lw_V q665 q667 qs8 q81 q668) (by decide +kernel) rfl rfl ⟨Nat.le_of_ble_eq_true rfl, Nat.le_of_ble_eq_true rfl⟩ (Nat.le_of_ble_eq_true rfl) ⟨(by first | exact Nat.le_of_ble_eq_true rfl | (dsimp only [rmk]; omega) | omega), (by first | exact Nat.le_of_ble_eq_true rfl | (dsimp only [rmk]; omega) | omega)⟩ (rd_k ?_)
  refine r_if_neB (pc := 5) (tgt := 11) C dX0_times_5 (by decide)  (fun h5 => ?_) (fun h5 => ?_)
  · refine r_iload_n (pc := 11) C dX0_times_11 rfl rfl ?_
    refine r_iconstZ (pc := 12) C dX0_times_12 ?_
    refine r_iconstZ (pc := 13) C dX0_times_13 ?_
    refine r_invP (pc := 14) 3 C dX0_times_14 (xf_in n 2 5 hn (by unfold i32; omega) (by unfold i32; omega)) rfl (lw_S q311 q312 q81 q313) (by decide +kernel) rfl rfl ⟨Nat.le_of_ble_eq_true rfl, Nat.le_of_ble_eq_true rfl⟩ (Nat.le_of_ble_eq_true rfl) ⟨(by first | exact Nat.le_of_ble_eq_true rfl | (dsimp only [rmk]; omega) | omega), (by first | exact Nat.le_of_ble_eq_true rfl | (dsimp only [rmk]; omega) | omega)⟩ ?_
    refine r_if_eqB (pc := 17) (tgt := 45) C dX0_times_17 (by decide)  (fun h17 => ?_) (fun h17 => ?_)
    · refine r_ldcZ (pc := 45) (a := -2000000102) C dX0_times_45 rfl q314 (by decide) ?_
      exact r_iret (pc := 47) C hQ dX0_times_47 (by first | exact Nat.le_of_ble_eq_true rfl | (dsimp only [rmk]; omega) | omega) (by first | exact Nat.le_of_ble_eq_true rfl | (dsimp only [rmk]; omega) | omega) (fun G hG => (by cases hG; unfold sTimes; first | (rw [if_pos h5, if_neg h17]; exact ⟨rfl, h.comp, FR.rf⟩) | (rw [if_pos h5, if_pos h17]; exact ⟨rfl, h5'.comp, (r2.nil _).tr (f3.wk (by decide))⟩)))
    · refine r_aload_n (pc := 20) C dX0_times_20 rfl rfl ?_
      refine r_aload_n (pc := 21) C dX0_times_21 rfl rfl ?_
      refine r_get (pc := 22) (k := 3) (ci := 0) C dX0_times_22 (g1 h.ob) (show vwC[0]? = some (RX0, TX0, 10) from rfl) in_X0 (by decide) (C.t _ q278) (fun _ h => h) rfl ?_
      refine r_iload_n (pc := 25) C dX0_times_25 rfl rfl ?_
      refine r_invV (pc := 26) (ci := 8) 1 C dX0_times_26 (jl_get r h.rl (h.rix h5)) (gLs h.rl) (show vwC[8]? = some (RJ6, TJ6, 3) from rfl) rfl (lw_V q670 q671 q672 q89 q673) (by decide +kernel) rfl rfl ⟨Nat.le_of_ble_eq_true rfl, Nat.le_of_ble_eq_true rfl⟩ (Nat.le_of_ble_eq_true rfl) ⟨(by first | exact Nat.le_of_ble_eq_true rfl | (dsimp only [rmk]; omega) | omega), (by first | exact Nat.le_of_ble_eq_true rfl | (dsimp only [rmk]; omega) | omega)⟩ (rd_k ?_)
      refine r_castO (pc := 29) (ci := 4) C dX0_times_29 (gRd (h.road h5)) (show vwC[4]? = some (RX4, TX4, 3) from rfl) q584 ?_
      obtain ⟨s, tb, k1, k2, k3⟩ := id (h.road h5)
      have hw := h.rk.at h5
      have hlen : (repW (wsat x.ws r) n.toNat).length = n.toNat * (wsat x.ws r).length := repW_len _ _
      have hL1 : n.toNat * (wsat x.ws r).length ≤ 5 * 20 := Nat.mul_le_mul (by omega) hw.2
      have hL2 : 0 < n.toNat * (wsat x.ws r).length := Nat.mul_pos (by omega) hw.1
      refine r_getN (pc := 32) (k := 0) (ci := 4) C dX0_times_32 (g1 k1) (show vwC[4]? = some (RX4, TX4, 3) from rfl) in_X4 (by decide) (C.nf (h1 := "RiverWords") (by decide +kernel)) (fun _ h => h) rfl ?_
      refine r_iload_n (pc := 35) C dX0_times_35 rfl rfl ?_
      rw [show iI n = iI ((n.toNat : Nat) : Int) by rw [Int.toNat_of_nonneg (by omega)]]
      refine r_invV (pc := 36) (ci := 7) 1 C dX0_times_36 (xs_repeat n.toNat k2 ⟨by omega, by omega⟩ hw) (gS k2) (show vwC[7]? = some (RJ0, TJ0, 4) from rfl) rfl (lw_V q944 q945 q946 q83 q947) (by decide +kernel) rfl rfl ⟨Nat.le_of_ble_eq_true rfl, Nat.le_of_ble_eq_true rfl⟩ (Nat.le_of_ble_eq_true rfl) ⟨(by first | exact Nat.le_of_ble_eq_true rfl | (dsimp only [rmk]; omega) | omega), (by first | exact Nat.le_of_ble_eq_true rfl | (dsimp only [rmk]; omega) | omega)⟩ (fun v36 G36 h36 => ?_)
      obtain ⟨z, rfl, r1, r2⟩ := h36
      have h4 := h.fr r2 (by simp)
      refine r_invV (pc := 39) (ci := 0) 1 C dX0_times_39 (xo_comes h4 r1 ⟨by omega, by omega⟩) (g2 h4.ob) (show vwC[0]? = some (RX0, TX0, 10) from rfl) rfl (lw_V q575 q577 qs3 q81 q578) (by decide +kernel) rfl rfl ⟨Nat.le_of_ble_eq_true rfl, Nat.le_of_ble_eq_true rfl⟩ (Nat.le_of_ble_eq_true rfl) ⟨(by first | exact Nat.le_of_ble_eq_true rfl | (dsimp only [rmk]; omega) | omega), (by first | exact Nat.le_of_ble_eq_true rfl | (dsimp only [rmk]; omega) | omega)⟩ (fun v39 G39 h39 => ?_)
      obtain ⟨rfl, ⟨rls', rm', h5'⟩, f3⟩ := h39
      refine r_goto (pc := 42) (tgt := 47) C dX0_times_42 (by decide) ?_
      exact r_iret (pc := 47) C hQ dX0_times_47 (by first | exact Nat.le_of_ble_eq_true rfl | (dsimp only [rmk]; omega) | omega) (by first | exact Nat.le_of_ble_eq_true rfl | (dsimp only [rmk]; omega) | omega) (fun G hG => (by cases hG; unfold sTimes; first | (rw [if_pos h5, if_neg h17]; exact ⟨rfl, h.comp, FR.rf⟩) | (rw [if_pos h5, if_pos h17]; exact ⟨rfl, h5'.comp, (r2.nil _).tr (f3.wk (by decide))⟩)))
  · refine r_ldcZ (pc := 8) (a := -2000000101) C dX0_times_8 rfl q669 (by decide) ?_
    exact r_iret (pc := 10) C hQ dX0_times_10 (by first | exact Nat.le_of_ble_eq_true rfl | (dsimp only [rmk]; omega) | omega) (by first | exact Nat.le_of_ble_eq_true rfl | (dsimp only [rmk]; omega) | omega) (fun G hG => (by cases hG; unfold sTimes; rw [if_neg h5]; exact ⟨rfl, h.comp, FR.rf⟩))
set_option maxHeartbeats 800000 in
theorem xo_cut {la : Launch} {X : XE} {G0 : Gh} {xh : Nat} {x : AS} {A : Nat → Nat} {dr : Int} {rls : List Nat} {rm : Nat} {fls : List Nat} {fm : Nat} {cls : List Nat} {cm : Nat} (h : CW X G0 xh x A dr rls rm fls fm cls cm) (p q : Int) (hp : i32 p) (hq : i32 q) : MG la X yX0_cut cX0_cut 3 (some .int) (rmk 8 330 2200 196) [.ref xh, .int (iI p), .int (iI q)] (fun G => G = G0) (fun v G => v = some (.int (iI (sCut x.ws p q).1)) ∧ COMP X G xh (setws x (sCut x.ws p q).2) ∧ FR cT G0 G) := by
  refine MG.of (by decide +kernel) (Nat.le_of_ble_eq_true rfl) ?_
  intro Z C hX hL hQ
  subst hX; subst hL
  change WW Z 3 (fun G => G = G0) 0 0 0 [some (.ref xh), some (.int (iI p)), some (.int (iI q))] []
  refine r_iload_n (pc := 0) C dX0_cut_0 rfl rfl ?_
  refine r_iconstZ (pc := 1) C dX0_cut_1 ?_
  refine r_bipushZ (pc := 2) C dX0_cut_2 (by decide) ?_
  refine r_invP (pc := 4) 3 C dX0_cut_4 (xf_in p 1 99 hp (by unfold i32; omega) (by unfold i32; omega)) rfl (lw_S q311 q312 q81 q313) (by decide +kernel) rfl rfl ⟨Nat.le_of_ble_eq_true rfl, Nat.le_of_ble_eq_true rfl⟩ (Nat.le_of_ble_eq_true rfl) ⟨(by first | exact Nat.le_of_ble_eq_true rfl | (dsimp only [rmk]; omega) | omega), (by first | exact Nat.le_of_ble_eq_true rfl | (dsimp only [rmk]; omega) | omega)⟩ ?_
  refine r_if_eqB (pc := 7) (tgt := 34) C dX0_cut_7 (by decide)  (fun h7 => ?_) (fun h7 => ?_)
  · refine r_ldcZ (pc := 34) (a := -2000000102) C dX0_cut_34 rfl q314 (by decide) ?_
    exact r_iret (pc := 36) C hQ dX0_cut_36 (by first | exact Nat.le_of_ble_eq_true rfl | (dsimp only [rmk]; omega) | omega) (by first | exact Nat.le_of_ble_eq_true rfl | (dsimp only [rmk]; omega) | omega) (fun G hG => (by cases hG; unfold sCut; rw [if_neg (fun z => by first | exact h7 z.1 | exact h17 z.2.1 | (have := z.2.2.1; unfold igcd at h26; omega) | exact z.2.2.2 h31)]; exact ⟨rfl, h.comp, FR.rf⟩))
  · refine r_iload_n (pc := 10) C dX0_cut_10 rfl rfl ?_
    refine r_iconstZ (pc := 11) C dX0_cut_11 ?_
    refine r_bipushZ (pc := 12) C dX0_cut_12 (by decide) ?_
    refine r_invP (pc := 14) 3 C dX0_cut_14 (xf_in q 1 99 hq (by unfold i32; omega) (by unfold i32; omega)) rfl (lw_S q311 q312 q81 q313) (by decide +kernel) rfl rfl ⟨Nat.le_of_ble_eq_true rfl, Nat.le_of_ble_eq_true rfl⟩ (Nat.le_of_ble_eq_true rfl) ⟨(by first | exact Nat.le_of_ble_eq_true rfl | (dsimp only [rmk]; omega) | omega), (by first | exact Nat.le_of_ble_eq_true rfl | (dsimp only [rmk]; omega) | omega)⟩ ?_
    refine r_if_eqB (pc := 17) (tgt := 34) C dX0_cut_17 (by decide)  (fun h17 => ?_) (fun h17 => ?_)
    · refine r_ldcZ (pc := 34) (a := -2000000102) C dX0_cut_34 rfl q314 (by decide) ?_
      exact r_iret (pc := 36) C hQ dX0_cut_36 (by first | exact Nat.le_of_ble_eq_true rfl | (dsimp only [rmk]; omega) | omega) (by first | exact Nat.le_of_ble_eq_true rfl | (dsimp only [rmk]; omega) | omega) (fun G hG => (by cases hG; unfold sCut; rw [if_neg (fun z => by first | exact h7 z.1 | exact h17 z.2.1 | (have := z.2.2.1; unfold igcd at h26; omega) | exact z.2.2.2 h31)]; exact ⟨rfl, h.comp, FR.rf⟩))
    · refine r_iload_n (pc := 20) C dX0_cut_20 rfl rfl ?_
      refine r_iload_n (pc := 21) C dX0_cut_21 rfl rfl ?_
      have hgl := igcd_le (a := p) (b := q) (by omega)
      refine r_invP (pc := 22) 2 C dX0_cut_22 (xf_common p q (by unfold i32; omega) (by unfold i32; omega)) rfl (lw_S q963 q805 q81 q806) (by decide +kernel) rfl rfl ⟨Nat.le_of_ble_eq_true rfl, Nat.le_of_ble_eq_true rfl⟩ (Nat.le_of_ble_eq_true rfl) ⟨(by first | exact Nat.le_of_ble_eq_true rfl | (dsimp only [rmk]; omega) | omega), (by first | exact Nat.le_of_ble_eq_true rfl | (dsimp only [rmk]; omega) | omega)⟩ ?_
      refine r_iconstZ (pc := 25) C dX0_cut_25 ?_
      refine r_icmp_gtZ (pc := 26) (tgt := 34) C dX0_cut_26 (by decide) (by unfold igcd i32; omega) (by unfold i32; omega) (fun h26 => ?_) (fun h26 => ?_)
      · refine r_ldcZ (pc := 34) (a := -2000000102) C dX0_cut_34 rfl q314 (by decide) ?_
        exact r_iret (pc := 36) C hQ dX0_cut_36 (by first | exact Nat.le_of_ble_eq_true rfl | (dsimp only [rmk]; omega) | omega) (by first | exact Nat.le_of_ble_eq_true rfl | (dsimp only [rmk]; omega) | omega) (fun G hG => (by cases hG; unfold sCut; rw [if_neg (fun z => by first | exact h7 z.1 | exact h17 z.2.1 | (have := z.2.2.1; unfold igcd at h26; omega) | exact z.2.2.2 h31)]; exact ⟨rfl, h.comp, FR.rf⟩))
      · refine r_iload_n (pc := 29) C dX0_cut_29 rfl rfl ?_
        refine r_iload_n (pc := 30) C dX0_cut_30 rfl rfl ?_
        refine r_icmp_neZ (pc := 31) (tgt := 37) C dX0_cut_31 (by decide) hp hq (fun h31 => ?_) (fun h31 => ?_)
        · refine r_aload_n (pc := 37) C dX0_cut_37 rfl rfl ?_
          refine r_iload_n (pc := 38) C dX0_cut_38 rfl rfl ?_
          refine r_iload_n (pc := 39) C dX0_cut_39 rfl rfl ?_
          rw [show iI p = iI ((p.toNat : Nat) : Int) by rw [Int.toNat_of_nonneg (by omega)], show iI q = iI ((q.toNat : Nat) : Int) by rw [Int.toNat_of_nonneg (by omega)]]
          refine r_invS (pc := 40) 2 C dX0_cut_40 (xo_cutTo p.toNat q.toNat ⟨by omega, by omega⟩ ⟨by omega, by omega⟩) rfl (lw_S q964 q965 q81 q966) (by decide +kernel) rfl rfl ⟨Nat.le_of_ble_eq_true rfl, Nat.le_of_ble_eq_true rfl⟩ (Nat.le_of_ble_eq_true rfl) ⟨(by first | exact Nat.le_of_ble_eq_true rfl | (dsimp only [rmk]; omega) | omega), (by first | exact Nat.le_of_ble_eq_true rfl | (dsimp only [rmk]; omega) | omega)⟩ (fun v40 G40 h40 => ?_)
          obtain ⟨z, rfl, r1, r2⟩ := h40
          have h4 := h.fr r2 (by simp)
          have hl1 := cutW_le p.toNat q.toNat (by omega) (by omega)
          have hl2 := cutW_pos (p := p.toNat) (q := q.toNat) (by omega) (by omega) (by omega)
          refine r_invV (pc := 43) (ci := 0) 1 C dX0_cut_43 (xo_comes h4 r1 ⟨hl2, by omega⟩) (g2 h4.ob) (show vwC[0]? = some (RX0, TX0, 10) from rfl) rfl (lw_V q575 q577 qs3 q81 q578) (by decide +kernel) rfl rfl ⟨Nat.le_of_ble_eq_true rfl, Nat.le_of_ble_eq_true rfl⟩ (Nat.le_of_ble_eq_true rfl) ⟨(by first | exact Nat.le_of_ble_eq_true rfl | (dsimp only [rmk]; omega) | omega), (by first | exact Nat.le_of_ble_eq_true rfl | (dsimp only [rmk]; omega) | omega)⟩ (fun v43 G43 h43 => ?_)
          obtain ⟨rfl, ⟨rls', rm', h5'⟩, f3⟩ := h43
          exact r_iret (pc := 46) C hQ dX0_cut_46 (by first | exact Nat.le_of_ble_eq_true rfl | (dsimp only [rmk]; omega) | omega) (by first | exact Nat.le_of_ble_eq_true rfl | (dsimp only [rmk]; omega) | omega) (fun G hG => (by cases hG; unfold sCut; rw [if_pos ⟨h7, h17, by unfold igcd at h26; exact h26, h31⟩]; exact ⟨rfl, h5'.comp, (r2.wk (by decide)).tr (f3.wk (by decide))⟩))
        · refine r_ldcZ (pc := 34) (a := -2000000102) C dX0_cut_34 rfl q314 (by decide) ?_
          exact r_iret (pc := 36) C hQ dX0_cut_36 (by first | exact Nat.le_of_ble_eq_true rfl | (dsimp only [rmk]; omega) | omega) (by first | exact Nat.le_of_ble_eq_true rfl | (dsimp only [rmk]; omega) | omega) (fun G hG => (by cases hG; unfold sCut; rw [if_neg (fun z => by first | exact h7 z.1 | exact h17 z.2.1 | (have := z.2.2.1; unfold igcd at h26; omega) | exact z.2.2.2 h31)]; exact ⟨rfl, h.comp, FR.rf⟩))
set_option maxHeartbeats 800000 in
theorem xo_drop {la : Launch} {X : XE} {G0 : Gh} {xh : Nat} {x : AS} {A : Nat → Nat} {dr : Int} {rls : List Nat} {rm : Nat} {fls : List Nat} {fm : Nat} {cls : List Nat} {cm : Nat} (h : CW X G0 xh x A dr rls rm fls fm cls cm) : MG la X yX0_drop cX0_drop 1 (some .int) (rmk 3 0 0 66) [.ref xh] (fun G => G = G0) (fun v G => v = some (.int (iI (sDrop x.ws).1)) ∧ COMP X G xh (setws x (sDrop x.ws).2) ∧ FR cT G0 G) := by
  refine MG.of (by decide +kernel) (Nat.le_of_ble_eq_true rfl) ?_
  intro Z C hX hL hQ
  subst hX; subst hL
  change WW Z 1 (fun G => G = G0) 0 0 0 [some (.ref xh)] []
  refine r_aload_n (pc := 0) C dX0_drop_0 rfl rfl ?_
  refine r_get (pc := 1) (k := 3) (ci := 0) C dX0_drop_1 (g1 h.ob) (show vwC[0]? = some (RX0, TX0, 10) from rfl) in_X0 (by decide) (C.t _ q278) (fun _ h => h) rfl ?_
  refine r_invV (pc := 4) (ci := 8) 0 C dX0_drop_4 (jl_isEmpty h.rl) (gLs h.rl) (show vwC[8]? = some (RJ6, TJ6, 3) from rfl) rfl (lw_V q971 q972 q973 q89 q974) (by decide +kernel) rfl rfl ⟨Nat.le_of_ble_eq_true rfl, Nat.le_of_ble_eq_true rfl⟩ (Nat.le_of_ble_eq_true rfl) ⟨(by first | exact Nat.le_of_ble_eq_true rfl | (dsimp only [rmk]; omega) | omega), (by first | exact Nat.le_of_ble_eq_true rfl | (dsimp only [rmk]; omega) | omega)⟩ (rd_k ?_)
  refine r_if_eqB (pc := 7) (tgt := 13) C dX0_drop_7 (by decide)  (fun h7 => ?_) (fun h7 => ?_)
  · refine r_aload_n (pc := 13) C dX0_drop_13 rfl rfl ?_
    refine r_get (pc := 14) (k := 3) (ci := 0) C dX0_drop_14 (g1 h.ob) (show vwC[0]? = some (RX0, TX0, 10) from rfl) in_X0 (by decide) (C.t _ q278) (fun _ h => h) rfl ?_
    refine r_aload_n (pc := 17) C dX0_drop_17 rfl rfl ?_
    refine r_get (pc := 18) (k := 3) (ci := 0) C dX0_drop_18 (g1 h.ob) (show vwC[0]? = some (RX0, TX0, 10) from rfl) in_X0 (by decide) (C.t _ q278) (fun _ h => h) rfl ?_
    refine r_invV (pc := 21) (ci := 8) 0 C dX0_drop_21 (jl_size h.rl) (gLs h.rl) (show vwC[8]? = some (RJ6, TJ6, 3) from rfl) rfl (lw_V q580 q581 q582 q89 q583) (by decide +kernel) rfl rfl ⟨Nat.le_of_ble_eq_true rfl, Nat.le_of_ble_eq_true rfl⟩ (Nat.le_of_ble_eq_true rfl) ⟨(by first | exact Nat.le_of_ble_eq_true rfl | (dsimp only [rmk]; omega) | omega), (by first | exact Nat.le_of_ble_eq_true rfl | (dsimp only [rmk]; omega) | omega)⟩ (rd_k ?_)
    refine r_iconstZ (pc := 24) C dX0_drop_24 ?_
    refine r_isubZ (pc := 25) C dX0_drop_25 ?_
    refine r_invV (pc := 26) (ci := 8) 1 C dX0_drop_26 (jl_remove h.rl (by decide) (by omega)) (gLs h.rl) (show vwC[8]? = some (RJ6, TJ6, 3) from rfl) rfl (lw_V q975 q976 q977 q89 q978) (by decide +kernel) rfl rfl ⟨Nat.le_of_ble_eq_true rfl, Nat.le_of_ble_eq_true rfl⟩ (Nat.le_of_ble_eq_true rfl) ⟨(by first | exact Nat.le_of_ble_eq_true rfl | (dsimp only [rmk]; omega) | omega), (by first | exact Nat.le_of_ble_eq_true rfl | (dsimp only [rmk]; omega) | omega)⟩ (fun v26 G26 h26 => ?_)
    obtain ⟨⟨z, rfl⟩, q1, q2⟩ := h26
    have h2 := h.roads q2 (by simp) q1 h.hmr ((h.rs.fr q2 (by decide) (by decide)).pop) h.rk.pop
    refine r_pop (pc := 29) C dX0_drop_29 rfl ?_
    refine r_aload_n (pc := 30) C dX0_drop_30 rfl rfl ?_
    refine r_get (pc := 31) (k := 3) (ci := 0) C dX0_drop_31 (g1 h2.ob) (show vwC[0]? = some (RX0, TX0, 10) from rfl) in_X0 (by decide) (C.t _ q278) (fun _ h => h) rfl ?_
    refine r_invV (pc := 34) (ci := 8) 0 C dX0_drop_34 (jl_size q1) (gLs q1) (show vwC[8]? = some (RJ6, TJ6, 3) from rfl) rfl (lw_V q580 q581 q582 q89 q583) (by decide +kernel) rfl rfl ⟨Nat.le_of_ble_eq_true rfl, Nat.le_of_ble_eq_true rfl⟩ (Nat.le_of_ble_eq_true rfl) ⟨(by first | exact Nat.le_of_ble_eq_true rfl | (dsimp only [rmk]; omega) | omega), (by first | exact Nat.le_of_ble_eq_true rfl | (dsimp only [rmk]; omega) | omega)⟩ (rd_k ?_)
    exact r_iret (pc := 37) C hQ dX0_drop_37 (by first | exact Nat.le_of_ble_eq_true rfl | (dsimp only [rmk]; omega) | omega) (by first | exact Nat.le_of_ble_eq_true rfl | (dsimp only [rmk]; omega) | omega) (fun G hG => (by cases hG; unfold sDrop; rw [if_neg (by rw [← h.rn]; exact h7)]; refine ⟨?_, h2.comp, q2.wk (by decide)⟩; rw [List.length_dropLast, h.rn]; have hz : ¬ x.ws.length = 0 := (by rw [← h.rn]; exact h7); rw [show ((x.ws.length - 1 : Nat) : Int) = (x.ws.length : Int) - 1 by omega]))
  · refine r_ldcZ (pc := 10) (a := -2000000103) C dX0_drop_10 rfl q522 (by decide) ?_
    exact r_iret (pc := 12) C hQ dX0_drop_12 (by first | exact Nat.le_of_ble_eq_true rfl | (dsimp only [rmk]; omega) | omega) (by first | exact Nat.le_of_ble_eq_true rfl | (dsimp only [rmk]; omega) | omega) (fun G hG => (by cases hG; unfold sDrop; rw [if_pos (by rw [← h.rn]; exact h7)]; exact ⟨rfl, h.comp, FR.rf⟩))

