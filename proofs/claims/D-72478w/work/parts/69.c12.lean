/-! the component: rivers -/
set_option maxRecDepth 100000
def setd (x : AS) (d : Int) : AS := (x.1, x.2.1, x.2.2.1, d)
theorem wF_i {w : List Bool} (hw : w.length ≤ 20) (hcl : wClosed w = true) : i32 (wFa w) ∧ i32 (wFb w) ∧ i32 (wFc w) := by
  have hb := wTab_20 hw
  have q : ∀ x : Int, -2097152 ≤ x → x ≤ 2097152 → i32 (x.tdiv (wG w)) := by
    intro x h1 h2
    have h3 : (x.tdiv (wG w)).natAbs ≤ x.natAbs := by
      rw [Int.natAbs_tdiv]
      exact Nat.div_le_self _ _
    unfold i32; omega
  exact ⟨q _ (by omega) (by omega), q _ (by omega) (by omega), q _ (by omega) (by omega)⟩
set_option maxHeartbeats 800000 in
theorem xo_river {la : Launch} {X : XE} {G0 : Gh} {xh : Nat} {x : AS} {A : Nat → Nat} {dr : Int} {rls : List Nat} {rm : Nat} {fls : List Nat} {fm : Nat} {cls : List Nat} {cm : Nat} (h : CW X G0 xh x A dr rls rm fls fm cls cm) (d : Int) (hd : i32 d) : MG la X yX0_river cX0_river 2 (some .int) (rmk 9 8784 80578 219) [.ref xh, .int (iI d)] (fun G => G = G0) (fun v G => v = some (.int (iI (sRiver x.d d).1)) ∧ COMP X G xh (setd x (sRiver x.d d).2) ∧ FR cT G0 G) := by
  refine MG.of (by decide +kernel) (Nat.le_of_ble_eq_true rfl) ?_
  intro Z C hX hL hQ
  subst hX; subst hL
  change WW Z 2 (fun G => G = G0) 0 0 0 [some (.ref xh), some (.int (iI d))] []
  refine r_iload_n (pc := 0) C dX0_river_0 rfl rfl ?_
  refine r_iconstZ (pc := 1) C dX0_river_1 ?_
  refine r_sipushZ (pc := 2) C dX0_river_2 (by decide) ?_
  refine r_invP (pc := 5) 3 C dX0_river_5 (xf_in d 5 900 hd (by unfold i32; omega) (by unfold i32; omega)) rfl (lw_S q311 q312 q81 q313) (by decide +kernel) rfl rfl ⟨Nat.le_of_ble_eq_true rfl, Nat.le_of_ble_eq_true rfl⟩ (Nat.le_of_ble_eq_true rfl) ⟨(by first | exact Nat.le_of_ble_eq_true rfl | (dsimp only [rmk]; omega) | omega), (by first | exact Nat.le_of_ble_eq_true rfl | (dsimp only [rmk]; omega) | omega)⟩ ?_
  refine r_if_eqB (pc := 8) (tgt := 25) C dX0_river_8 (by decide)  (fun h8 => ?_) (fun h8 => ?_)
  · refine r_ldcZ (pc := 25) (a := -2000000102) C dX0_river_25 rfl q314 (by decide) ?_
    exact r_iret (pc := 27) C hQ dX0_river_27 (by first | exact Nat.le_of_ble_eq_true rfl | (dsimp only [rmk]; omega) | omega) (by first | exact Nat.le_of_ble_eq_true rfl | (dsimp only [rmk]; omega) | omega) (fun G hG => (by cases hG; unfold sRiver; first | (rw [if_neg (fun q => h8 q.1)]; exact ⟨rfl, h.comp, FR.rf⟩) | (rw [if_neg (fun q => absurd q.2.1 (by omega))]; exact ⟨rfl, h.comp, FR.rf⟩) | (rw [if_neg (fun q => h22 (by rw [q.2.2]; rfl))]; exact ⟨rfl, h.comp, FR.rf⟩)))
  · refine r_iload_n (pc := 11) C dX0_river_11 rfl rfl ?_
    refine r_iconstZ (pc := 12) C dX0_river_12 ?_
    refine r_iremE (pc := 13) C dX0_river_13 (by unfold i32; omega) (by unfold i32; omega) (by omega) (by omega) ?_
    refine r_iconstZ (pc := 14) C dX0_river_14 ?_
    refine r_icmp_gtZ (pc := 15) (tgt := 25) C dX0_river_15 (by decide) (by unfold i32; omega) (by unfold i32; omega) (fun h15 => ?_) (fun h15 => ?_)
    · refine r_ldcZ (pc := 25) (a := -2000000102) C dX0_river_25 rfl q314 (by decide) ?_
      exact r_iret (pc := 27) C hQ dX0_river_27 (by first | exact Nat.le_of_ble_eq_true rfl | (dsimp only [rmk]; omega) | omega) (by first | exact Nat.le_of_ble_eq_true rfl | (dsimp only [rmk]; omega) | omega) (fun G hG => (by cases hG; unfold sRiver; first | (rw [if_neg (fun q => h8 q.1)]; exact ⟨rfl, h.comp, FR.rf⟩) | (rw [if_neg (fun q => absurd q.2.1 (by omega))]; exact ⟨rfl, h.comp, FR.rf⟩) | (rw [if_neg (fun q => h22 (by rw [q.2.2]; rfl))]; exact ⟨rfl, h.comp, FR.rf⟩)))
    · refine r_iload_n (pc := 18) C dX0_river_18 rfl rfl ?_
      refine r_invP (pc := 19) 1 C dX0_river_19 (show PF yX0_isSquare cX0_isSquare 2 (some .boolean) 0 0 [.int (iI d)] (some (.int (iI (bi (sqB d.toNat))))) from (by have q := xf_isSquare d.toNat (by omega); rwa [show ((d.toNat : Nat) : Int) = d by omega] at q)) rfl (lw_S q988 q989 q81 q990) (by decide +kernel) rfl rfl ⟨Nat.le_of_ble_eq_true rfl, Nat.le_of_ble_eq_true rfl⟩ (Nat.le_of_ble_eq_true rfl) ⟨(by first | exact Nat.le_of_ble_eq_true rfl | (dsimp only [rmk]; omega) | omega), (by first | exact Nat.le_of_ble_eq_true rfl | (dsimp only [rmk]; omega) | omega)⟩ ?_
      refine r_if_eqZ (pc := 22) (tgt := 28) C dX0_river_22 (by decide) (bi_i _) (fun h22 => ?_) (fun h22 => ?_)
      · have hok : okD d := ⟨h8, by omega, bi_0.mp h22⟩
        have hrv := hok.riv
        have hfd : fl d = fms d := (by unfold fl; rw [if_neg (by omega)])
        refine r_aload_n (pc := 28) C dX0_river_28 rfl rfl ?_
        refine r_iload_n (pc := 29) C dX0_river_29 rfl rfl ?_
        refine r_put (pc := 30) (k := 6) (ci := 0) (ty := .int) C dX0_river_30 (Γ' := fun G => G = gup G0 xh (1, .inl (0, xfs A x.rdn d dr))) (fun G hG => ⟨1, by decide, by rw [hG]; exact h.ob, by rw [hG]; rfl⟩) (show vwC[0]? = some (RX0, TX0, 10) from rfl) in_X0 tyX0 tyX0_ok nmX0 (by decide) (C.t _ q281) (fun _ h => h) rfl (by decide +kernel) rfl rfl (Nat.le_of_ble_eq_true rfl) ?_
        have f1 : FR [1] G0 (gup G0 xh (1, .inl (0, xfs A x.rdn d dr))) := FR.up h.ob (by decide) 1
        have x1 : XOB (gup G0 xh (1, .inl (0, xfs A x.rdn d dr))) xh A x.rdn d dr := ⟨gup_eq _ _ _, h.xo.2.1.fr f1 (by decide), h.xo.2.2.1.fr f1 (by decide), h.xo.2.2.2.fr f1 (by decide)⟩
        generalize gup G0 xh _ = G1 at f1 x1 ⊢
        refine r_aload_n (pc := 33) C dX0_river_33 rfl rfl ?_
        refine r_get (pc := 34) (k := 7) (ci := 0) C dX0_river_34 (g1 x1.1) (show vwC[0]? = some (RX0, TX0, 10) from rfl) in_X0 (by decide) (C.t _ q283) (fun _ h => h) rfl ?_
        refine r_invV (pc := 37) (ci := 8) 0 C dX0_river_37 (jl_clear (h.fll.fr f1 (by decide) (by decide)) (by decide)) (gLs (h.fll.fr f1 (by decide) (by decide))) (show vwC[8]? = some (RJ6, TJ6, 3) from rfl) rfl (lw_V q991 q992 q993 q89 q994) (by decide +kernel) rfl rfl ⟨Nat.le_of_ble_eq_true rfl, Nat.le_of_ble_eq_true rfl⟩ (Nat.le_of_ble_eq_true rfl) ⟨(by first | exact Nat.le_of_ble_eq_true rfl | (dsimp only [rmk]; omega) | omega), (by first | exact Nat.le_of_ble_eq_true rfl | (dsimp only [rmk]; omega) | omega)⟩ (fun v37 G37 h37 => ?_)
        obtain ⟨rfl, q1, q2⟩ := h37
        have x2 := x1.fr q2 (by decide) (by decide)
        refine r_aload_n (pc := 40) C dX0_river_40 rfl rfl ?_
        refine r_get (pc := 41) (k := 8) (ci := 0) C dX0_river_41 (g1 x2.1) (show vwC[0]? = some (RX0, TX0, 10) from rfl) in_X0 (by decide) (C.t _ q284) (fun _ h => h) rfl ?_
        refine r_invV (pc := 44) (ci := 8) 0 C dX0_river_44 (jl_clear ((h.cl.fr f1 (by decide) (by decide)).fr q2 (by decide) (by decide)) (by decide)) (gLs ((h.cl.fr f1 (by decide) (by decide)).fr q2 (by decide) (by decide))) (show vwC[8]? = some (RJ6, TJ6, 3) from rfl) rfl (lw_V q991 q992 q993 q89 q994) (by decide +kernel) rfl rfl ⟨Nat.le_of_ble_eq_true rfl, Nat.le_of_ble_eq_true rfl⟩ (Nat.le_of_ble_eq_true rfl) ⟨(by first | exact Nat.le_of_ble_eq_true rfl | (dsimp only [rmk]; omega) | omega), (by first | exact Nat.le_of_ble_eq_true rfl | (dsimp only [rmk]; omega) | omega)⟩ (fun v44 G44 h44 => ?_)
        obtain ⟨rfl, q3, q4⟩ := h44
        have x3 := x2.fr q4 (by decide) (by decide)
        refine r_aload_n (pc := 47) C dX0_river_47 rfl rfl ?_
        refine r_invV (pc := 48) (ci := 0) 0 C dX0_river_48 (xo_layForms x3 h8 (q1.fr q4 (by decide) (by decide)) h.hmf) (g2 x3.1) (show vwC[0]? = some (RX0, TX0, 10) from rfl) rfl (lw_V q995 q997 qs11 q81 q998) (by decide +kernel) rfl rfl ⟨Nat.le_of_ble_eq_true rfl, Nat.le_of_ble_eq_true rfl⟩ (Nat.le_of_ble_eq_true rfl) ⟨(by first | exact Nat.le_of_ble_eq_true rfl | (dsimp only [rmk]; omega) | omega), (by first | exact Nat.le_of_ble_eq_true rfl | (dsimp only [rmk]; omega) | omega)⟩ (fun v48 G48 h48 => ?_)
        obtain ⟨rfl, m1, hm1, fls', q5, q6, q7⟩ := h48
        have x4 := x3.fr q7 (by decide) (by decide)
        rw [← hfd] at q6
        refine r_aload_n (pc := 51) C dX0_river_51 rfl rfl ?_
        refine r_invV (pc := 52) (ci := 0) 0 C dX0_river_52 (xo_layCycles x4 q5 q6 (q3.fr q7 (by decide) (by decide)) h.hmc (fun f hf => fl_FB hrv hf) (fl_len hrv) (fun f hf => fl_next hrv hf) (fl_perm hrv)) (g2 x4.1) (show vwC[0]? = some (RX0, TX0, 10) from rfl) rfl (lw_V q999 q1001 qs12 q81 q1002) (by decide +kernel) rfl rfl ⟨Nat.le_of_ble_eq_true rfl, Nat.le_of_ble_eq_true rfl⟩ (Nat.le_of_ble_eq_true rfl) ⟨(by first | exact Nat.le_of_ble_eq_true rfl | (dsimp only [rmk]; omega) | omega), (by first | exact Nat.le_of_ble_eq_true rfl | (dsimp only [rmk]; omega) | omega)⟩ (fun v52 G52 h52 => ?_)
        obtain ⟨rfl, cls', m2, hm2, q8, q9, q10, q11⟩ := h52
        have x5 := x4.fr q11 (by decide) (by decide)
        have f5 : FR [1, 5, 6, 7, 9, 12] G0 G52 := ((((f1.wk (by decide)).tr (q2.wk (by decide))).tr (q4.wk (by decide))).tr (q7.wk (by decide))).tr (q11.wk (by decide))
        refine r_aload_n (pc := 55) C dX0_river_55 rfl rfl ?_
        refine r_get (pc := 56) (k := 7) (ci := 0) C dX0_river_56 (g1 x5.1) (show vwC[0]? = some (RX0, TX0, 10) from rfl) in_X0 (by decide) (C.t _ q283) (fun _ h => h) rfl ?_
        have L5 := q5.fr q11 (by decide) (by decide)
        refine r_invV (pc := 59) (ci := 8) 0 C dX0_river_59 (jl_size L5) (gLs L5) (show vwC[8]? = some (RJ6, TJ6, 3) from rfl) rfl (lw_V q580 q581 q582 q89 q583) (by decide +kernel) rfl rfl ⟨Nat.le_of_ble_eq_true rfl, Nat.le_of_ble_eq_true rfl⟩ (Nat.le_of_ble_eq_true rfl) ⟨(by first | exact Nat.le_of_ble_eq_true rfl | (dsimp only [rmk]; omega) | omega), (by first | exact Nat.le_of_ble_eq_true rfl | (dsimp only [rmk]; omega) | omega)⟩ (rd_k ?_)
        exact r_iret (pc := 62) C hQ dX0_river_62 (by first | exact Nat.le_of_ble_eq_true rfl | (dsimp only [rmk]; omega) | omega) (by first | exact Nat.le_of_ble_eq_true rfl | (dsimp only [rmk]; omega) | omega) (fun G hG => (by cases hG; unfold sRiver; rw [if_pos (show (5 ≤ d ∧ d ≤ 900) ∧ d % 4 ≤ 1 ∧ sqB d.toNat = false from hok)]; refine ⟨?_, ?_, f5.wk (by decide)⟩; rw [q6.1, hfd]; exact CW.comp (x := setd x d) (A := A) (dr := dr) (rls := rls) (mr := rm) (fls := fls') (mf := m1) (cls := cls') (mc := m2) ⟨x5, h.ko.fr f5 (by decide), ⟨h.rl.fr f5 (by decide) (by decide), h.hmr, h.rs.fr f5 (by decide) (by decide), h.rk⟩, ⟨h.pg.fr f5 (by decide), h.ch⟩, ⟨L5, hm1, q10⟩, ⟨q8, hm2, q9⟩, hrv⟩))
      · refine r_ldcZ (pc := 25) (a := -2000000102) C dX0_river_25 rfl q314 (by decide) ?_
        exact r_iret (pc := 27) C hQ dX0_river_27 (by first | exact Nat.le_of_ble_eq_true rfl | (dsimp only [rmk]; omega) | omega) (by first | exact Nat.le_of_ble_eq_true rfl | (dsimp only [rmk]; omega) | omega) (fun G hG => (by cases hG; unfold sRiver; first | (rw [if_neg (fun q => h8 q.1)]; exact ⟨rfl, h.comp, FR.rf⟩) | (rw [if_neg (fun q => absurd q.2.1 (by omega))]; exact ⟨rfl, h.comp, FR.rf⟩) | (rw [if_neg (fun q => h22 (by rw [q.2.2]; rfl))]; exact ⟨rfl, h.comp, FR.rf⟩)))
set_option maxHeartbeats 800000 in
theorem xo_isForm {la : Launch} {X : XE} {G0 : Gh} {xh : Nat} {x : AS} {A : Nat → Nat} {dr : Int} {rls : List Nat} {rm : Nat} {fls : List Nat} {fm : Nat} {cls : List Nat} {cm : Nat} (h : CW X G0 xh x A dr rls rm fls fm cls cm) (r : Int) (hr : i32 r) : MG la X yX0_isForm cX0_isForm 2 (some .boolean) (rmk 1 0 0 22) [.ref xh, .int (iI r)] (fun G => G = G0) (fun zv G => zv = some (.int (iI (b2 (0 ≤ r ∧ r ≤ (nR x.d : Int) - 1)))) ∧ G = G0) := by
  refine MG.of (by decide +kernel) (Nat.le_of_ble_eq_true rfl) ?_
  intro Z C hX hL hQ
  subst hX; subst hL
  change WW Z 2 (fun G => G = G0) 0 0 0 [some (.ref xh), some (.int (iI r))] []
  refine r_iload_n (pc := 0) C dX0_isForm_0 rfl rfl ?_
  refine r_iconstZ (pc := 1) C dX0_isForm_1 ?_
  refine r_aload_n (pc := 2) C dX0_isForm_2 rfl rfl ?_
  refine r_get (pc := 3) (k := 7) (ci := 0) C dX0_isForm_3 (g1 h.ob) (show vwC[0]? = some (RX0, TX0, 10) from rfl) in_X0 (by decide) (C.t _ q283) (fun _ h => h) rfl ?_
  refine r_invV (pc := 6) (ci := 8) 0 C dX0_isForm_6 (jl_size h.fll) (gLs h.fll) (show vwC[8]? = some (RJ6, TJ6, 3) from rfl) rfl (lw_V q580 q581 q582 q89 q583) (by decide +kernel) rfl rfl ⟨Nat.le_of_ble_eq_true rfl, Nat.le_of_ble_eq_true rfl⟩ (Nat.le_of_ble_eq_true rfl) ⟨Nat.le_of_ble_eq_true rfl, Nat.le_of_ble_eq_true rfl⟩ (rd_k ?_)
  rw [h.fn]
  have hn := nR_le h.rv
  refine r_iconstZ (pc := 9) C dX0_isForm_9 ?_
  refine r_isubZ (pc := 10) C dX0_isForm_10 ?_
  refine r_invP (pc := 11) 3 C dX0_isForm_11 (xf_in r 0 ((nR x.d : Int) - 1) hr i32_0 (by unfold i32; omega)) rfl (lw_S q311 q312 q81 q313) (by decide +kernel) rfl rfl ⟨Nat.le_of_ble_eq_true rfl, Nat.le_of_ble_eq_true rfl⟩ (Nat.le_of_ble_eq_true rfl) ⟨Nat.le_of_ble_eq_true rfl, Nat.le_of_ble_eq_true rfl⟩ ?_
  exact r_zret (pc := 14) C hQ dX0_isForm_14 (by first | exact b2_nar _ | decide) (Nat.le_of_ble_eq_true rfl) (Nat.le_of_ble_eq_true rfl) (fun G hG => ⟨rfl, hG⟩)
set_option maxHeartbeats 800000 in
theorem xo_isCycle {la : Launch} {X : XE} {G0 : Gh} {xh : Nat} {x : AS} {A : Nat → Nat} {dr : Int} {rls : List Nat} {rm : Nat} {fls : List Nat} {fm : Nat} {cls : List Nat} {cm : Nat} (h : CW X G0 xh x A dr rls rm fls fm cls cm) (r : Int) (hr : i32 r) : MG la X yX0_isCycle cX0_isCycle 2 (some .boolean) (rmk 1 0 0 22) [.ref xh, .int (iI r)] (fun G => G = G0) (fun zv G => zv = some (.int (iI (b2 (0 ≤ r ∧ r ≤ (nC x.d : Int) - 1)))) ∧ G = G0) := by
  refine MG.of (by decide +kernel) (Nat.le_of_ble_eq_true rfl) ?_
  intro Z C hX hL hQ
  subst hX; subst hL
  change WW Z 2 (fun G => G = G0) 0 0 0 [some (.ref xh), some (.int (iI r))] []
  refine r_iload_n (pc := 0) C dX0_isCycle_0 rfl rfl ?_
  refine r_iconstZ (pc := 1) C dX0_isCycle_1 ?_
  refine r_aload_n (pc := 2) C dX0_isCycle_2 rfl rfl ?_
  refine r_get (pc := 3) (k := 8) (ci := 0) C dX0_isCycle_3 (g1 h.ob) (show vwC[0]? = some (RX0, TX0, 10) from rfl) in_X0 (by decide) (C.t _ q284) (fun _ h => h) rfl ?_
  refine r_invV (pc := 6) (ci := 8) 0 C dX0_isCycle_6 (jl_size h.cl) (gLs h.cl) (show vwC[8]? = some (RJ6, TJ6, 3) from rfl) rfl (lw_V q580 q581 q582 q89 q583) (by decide +kernel) rfl rfl ⟨Nat.le_of_ble_eq_true rfl, Nat.le_of_ble_eq_true rfl⟩ (Nat.le_of_ble_eq_true rfl) ⟨Nat.le_of_ble_eq_true rfl, Nat.le_of_ble_eq_true rfl⟩ (rd_k ?_)
  rw [h.cn]
  have hn := nR_le h.rv
  have hn2 := nC_le h.rv
  refine r_iconstZ (pc := 9) C dX0_isCycle_9 ?_
  refine r_isubZ (pc := 10) C dX0_isCycle_10 ?_
  refine r_invP (pc := 11) 3 C dX0_isCycle_11 (xf_in r 0 ((nC x.d : Int) - 1) hr i32_0 (by unfold i32; omega)) rfl (lw_S q311 q312 q81 q313) (by decide +kernel) rfl rfl ⟨Nat.le_of_ble_eq_true rfl, Nat.le_of_ble_eq_true rfl⟩ (Nat.le_of_ble_eq_true rfl) ⟨Nat.le_of_ble_eq_true rfl, Nat.le_of_ble_eq_true rfl⟩ ?_
  exact r_zret (pc := 14) C hQ dX0_isCycle_14 (by first | exact b2_nar _ | decide) (Nat.le_of_ble_eq_true rfl) (Nat.le_of_ble_eq_true rfl) (fun G hG => ⟨rfl, hG⟩)
set_option maxHeartbeats 800000 in
theorem xo_simpleTold {la : Launch} {X : XE} {G0 : Gh} {xh : Nat} {x : AS} {A : Nat → Nat} {dr : Int} {rls : List Nat} {rm : Nat} {fls : List Nat} {fm : Nat} {cls : List Nat} {cm : Nat} (h : CW X G0 xh x A dr rls rm fls fm cls cm) (j : Nat) (k : Int) (hj : j < nR x.d) (hk : 0 ≤ k ∧ k ≤ 7) : MG la X yX0_simpleTold cX0_simpleTold 3 (some .int) (rmk 1 0 0 20) [.ref xh, .ref (fls.getD j 0), .int (iI k)] (fun G => G = G0) (fun zv G => zv = some (.int (iI (sNow x.d j k))) ∧ G = G0) := by
  refine MG.of (by decide +kernel) (Nat.le_of_ble_eq_true rfl) ?_
  intro Z C hX hL hQ
  subst hX; subst hL
  change WW Z 3 (fun G => G = G0) 0 0 0 [some (.ref xh), some (.ref (fls.getD j 0)), some (.int (iI k))] []
  have hF := h.fs.2.1 j hj
  have fb := fl_FB h.rv (fat_mem hj)
  refine r_iload_n (pc := 0) C dX0_simpleTold_0 rfl rfl ?_
  refine r_tcase 0 (fun h1 => ?_) (fun h1_0 => ?_)
  · refine r_tableInZ (pc := 1) (off := 43) (tgt := 44) C dX0_simpleTold_1 (by unfold i32; omega) (by omega) (by omega) (by rw [h1]; rfl) (by decide) ?_
    refine r_aload_n (pc := 44) C dX0_simpleTold_44 rfl rfl ?_
    refine r_getN (pc := 45) (k := 0) (ci := 5) C dX0_simpleTold_45 (g1 hF) (show vwC[5]? = some (RX6, TX6, 7) from rfl) in_X6 (by decide) (C.nf (h1 := "RiverWords") (by decide +kernel)) (fun _ h => h) rfl ?_
    refine r_goto (pc := 48) (tgt := 97) C dX0_simpleTold_48 (by decide) ?_
    exact r_iret (pc := 97) C hQ dX0_simpleTold_97 (Nat.le_of_ble_eq_true rfl) (Nat.le_of_ble_eq_true rfl) (fun G hG => ⟨(by unfold sNow; first | (rw [if_pos h1]; done) | (rw [if_neg (by omega), if_pos h1]; done) | (rw [if_neg (by omega), if_neg (by omega), if_pos h1]; done) | (rw [if_neg (by omega), if_neg (by omega), if_neg (by omega), if_pos h1]; done) | (rw [if_neg (by omega), if_neg (by omega), if_neg (by omega), if_neg (by omega), if_pos h1]; done) | (rw [if_neg (by omega), if_neg (by omega), if_neg (by omega), if_neg (by omega), if_neg (by omega), if_pos h1]; cases fLeft (fat (fl x.d) j) <;> rfl) | (rw [if_neg (by omega), if_neg (by omega), if_neg (by omega), if_neg (by omega), if_neg (by omega), if_neg (by omega), if_pos h1]; done) | (rw [if_neg (by omega), if_neg (by omega), if_neg (by omega), if_neg (by omega), if_neg (by omega), if_neg (by omega), if_neg (by omega)]; done)), hG⟩)
  refine r_tcase 1 (fun h1 => ?_) (fun h1_1 => ?_)
  · refine r_tableInZ (pc := 1) (off := 50) (tgt := 51) C dX0_simpleTold_1 (by unfold i32; omega) (by omega) (by omega) (by rw [h1]; rfl) (by decide) ?_
    refine r_aload_n (pc := 51) C dX0_simpleTold_51 rfl rfl ?_
    refine r_getN (pc := 52) (k := 1) (ci := 5) C dX0_simpleTold_52 (g1 hF) (show vwC[5]? = some (RX6, TX6, 7) from rfl) in_X6 (by decide) (C.nf (h1 := "RiverWords") (by decide +kernel)) (fun _ h => h) rfl ?_
    refine r_goto (pc := 55) (tgt := 97) C dX0_simpleTold_55 (by decide) ?_
    exact r_iret (pc := 97) C hQ dX0_simpleTold_97 (Nat.le_of_ble_eq_true rfl) (Nat.le_of_ble_eq_true rfl) (fun G hG => ⟨(by unfold sNow; first | (rw [if_pos h1]; done) | (rw [if_neg (by omega), if_pos h1]; done) | (rw [if_neg (by omega), if_neg (by omega), if_pos h1]; done) | (rw [if_neg (by omega), if_neg (by omega), if_neg (by omega), if_pos h1]; done) | (rw [if_neg (by omega), if_neg (by omega), if_neg (by omega), if_neg (by omega), if_pos h1]; done) | (rw [if_neg (by omega), if_neg (by omega), if_neg (by omega), if_neg (by omega), if_neg (by omega), if_pos h1]; cases fLeft (fat (fl x.d) j) <;> rfl) | (rw [if_neg (by omega), if_neg (by omega), if_neg (by omega), if_neg (by omega), if_neg (by omega), if_neg (by omega), if_pos h1]; done) | (rw [if_neg (by omega), if_neg (by omega), if_neg (by omega), if_neg (by omega), if_neg (by omega), if_neg (by omega), if_neg (by omega)]; done)), hG⟩)
  refine r_tcase 2 (fun h1 => ?_) (fun h1_2 => ?_)
  · refine r_tableInZ (pc := 1) (off := 57) (tgt := 58) C dX0_simpleTold_1 (by unfold i32; omega) (by omega) (by omega) (by rw [h1]; rfl) (by decide) ?_
    refine r_aload_n (pc := 58) C dX0_simpleTold_58 rfl rfl ?_
    refine r_getN (pc := 59) (k := 2) (ci := 5) C dX0_simpleTold_59 (g1 hF) (show vwC[5]? = some (RX6, TX6, 7) from rfl) in_X6 (by decide) (C.nf (h1 := "RiverWords") (by decide +kernel)) (fun _ h => h) rfl ?_
    refine r_goto (pc := 62) (tgt := 97) C dX0_simpleTold_62 (by decide) ?_
    exact r_iret (pc := 97) C hQ dX0_simpleTold_97 (Nat.le_of_ble_eq_true rfl) (Nat.le_of_ble_eq_true rfl) (fun G hG => ⟨(by unfold sNow; first | (rw [if_pos h1]; done) | (rw [if_neg (by omega), if_pos h1]; done) | (rw [if_neg (by omega), if_neg (by omega), if_pos h1]; done) | (rw [if_neg (by omega), if_neg (by omega), if_neg (by omega), if_pos h1]; done) | (rw [if_neg (by omega), if_neg (by omega), if_neg (by omega), if_neg (by omega), if_pos h1]; done) | (rw [if_neg (by omega), if_neg (by omega), if_neg (by omega), if_neg (by omega), if_neg (by omega), if_pos h1]; cases fLeft (fat (fl x.d) j) <;> rfl) | (rw [if_neg (by omega), if_neg (by omega), if_neg (by omega), if_neg (by omega), if_neg (by omega), if_neg (by omega), if_pos h1]; done) | (rw [if_neg (by omega), if_neg (by omega), if_neg (by omega), if_neg (by omega), if_neg (by omega), if_neg (by omega), if_neg (by omega)]; done)), hG⟩)
  refine r_tcase 3 (fun h1 => ?_) (fun h1_3 => ?_)
  · refine r_tableInZ (pc := 1) (off := 64) (tgt := 65) C dX0_simpleTold_1 (by unfold i32; omega) (by omega) (by omega) (by rw [h1]; rfl) (by decide) ?_
    refine r_aload_n (pc := 65) C dX0_simpleTold_65 rfl rfl ?_
    refine r_getN (pc := 66) (k := 3) (ci := 5) C dX0_simpleTold_66 (g1 hF) (show vwC[5]? = some (RX6, TX6, 7) from rfl) in_X6 (by decide) (C.nf (h1 := "RiverWords") (by decide +kernel)) (fun _ h => h) rfl ?_
    refine r_goto (pc := 69) (tgt := 97) C dX0_simpleTold_69 (by decide) ?_
    exact r_iret (pc := 97) C hQ dX0_simpleTold_97 (Nat.le_of_ble_eq_true rfl) (Nat.le_of_ble_eq_true rfl) (fun G hG => ⟨(by unfold sNow; first | (rw [if_pos h1]; done) | (rw [if_neg (by omega), if_pos h1]; done) | (rw [if_neg (by omega), if_neg (by omega), if_pos h1]; done) | (rw [if_neg (by omega), if_neg (by omega), if_neg (by omega), if_pos h1]; done) | (rw [if_neg (by omega), if_neg (by omega), if_neg (by omega), if_neg (by omega), if_pos h1]; done) | (rw [if_neg (by omega), if_neg (by omega), if_neg (by omega), if_neg (by omega), if_neg (by omega), if_pos h1]; cases fLeft (fat (fl x.d) j) <;> rfl) | (rw [if_neg (by omega), if_neg (by omega), if_neg (by omega), if_neg (by omega), if_neg (by omega), if_neg (by omega), if_pos h1]; done) | (rw [if_neg (by omega), if_neg (by omega), if_neg (by omega), if_neg (by omega), if_neg (by omega), if_neg (by omega), if_neg (by omega)]; done)), hG⟩)
  refine r_tcase 4 (fun h1 => ?_) (fun h1_4 => ?_)
  · refine r_tableInZ (pc := 1) (off := 71) (tgt := 72) C dX0_simpleTold_1 (by unfold i32; omega) (by omega) (by omega) (by rw [h1]; rfl) (by decide) ?_
    refine r_aload_n (pc := 72) C dX0_simpleTold_72 rfl rfl ?_
    refine r_getN (pc := 73) (k := 4) (ci := 5) C dX0_simpleTold_73 (g1 hF) (show vwC[5]? = some (RX6, TX6, 7) from rfl) in_X6 (by decide) (C.nf (h1 := "RiverWords") (by decide +kernel)) (fun _ h => h) rfl ?_
    refine r_goto (pc := 76) (tgt := 97) C dX0_simpleTold_76 (by decide) ?_
    exact r_iret (pc := 97) C hQ dX0_simpleTold_97 (Nat.le_of_ble_eq_true rfl) (Nat.le_of_ble_eq_true rfl) (fun G hG => ⟨(by unfold sNow; first | (rw [if_pos h1]; done) | (rw [if_neg (by omega), if_pos h1]; done) | (rw [if_neg (by omega), if_neg (by omega), if_pos h1]; done) | (rw [if_neg (by omega), if_neg (by omega), if_neg (by omega), if_pos h1]; done) | (rw [if_neg (by omega), if_neg (by omega), if_neg (by omega), if_neg (by omega), if_pos h1]; done) | (rw [if_neg (by omega), if_neg (by omega), if_neg (by omega), if_neg (by omega), if_neg (by omega), if_pos h1]; cases fLeft (fat (fl x.d) j) <;> rfl) | (rw [if_neg (by omega), if_neg (by omega), if_neg (by omega), if_neg (by omega), if_neg (by omega), if_neg (by omega), if_pos h1]; done) | (rw [if_neg (by omega), if_neg (by omega), if_neg (by omega), if_neg (by omega), if_neg (by omega), if_neg (by omega), if_neg (by omega)]; done)), hG⟩)
  refine r_tcase 5 (fun h1 => ?_) (fun h1_5 => ?_)
  · refine r_tableInZ (pc := 1) (off := 78) (tgt := 79) C dX0_simpleTold_1 (by unfold i32; omega) (by omega) (by omega) (by rw [h1]; rfl) (by decide) ?_
    refine r_aload_n (pc := 79) C dX0_simpleTold_79 rfl rfl ?_
    refine r_invV (pc := 80) (ci := 5) 0 C dX0_simpleTold_80 (xm_letter hF (by obtain ⟨b1, b2', b3⟩ := fb; unfold i32; omega)) (g2 hF) (show vwC[5]? = some (RX6, TX6, 7) from rfl) rfl (lw_V q1003 q1004 q1005 q101 q1006) (by decide +kernel) rfl rfl ⟨Nat.le_of_ble_eq_true rfl, Nat.le_of_ble_eq_true rfl⟩ (Nat.le_of_ble_eq_true rfl) ⟨Nat.le_of_ble_eq_true rfl, Nat.le_of_ble_eq_true rfl⟩ (rd_k ?_)
    refine r_goto (pc := 83) (tgt := 97) C dX0_simpleTold_83 (by decide) ?_
    exact r_iret (pc := 97) C hQ dX0_simpleTold_97 (Nat.le_of_ble_eq_true rfl) (Nat.le_of_ble_eq_true rfl) (fun G hG => ⟨(by unfold sNow; first | (rw [if_pos h1]; done) | (rw [if_neg (by omega), if_pos h1]; done) | (rw [if_neg (by omega), if_neg (by omega), if_pos h1]; done) | (rw [if_neg (by omega), if_neg (by omega), if_neg (by omega), if_pos h1]; done) | (rw [if_neg (by omega), if_neg (by omega), if_neg (by omega), if_neg (by omega), if_pos h1]; done) | (rw [if_neg (by omega), if_neg (by omega), if_neg (by omega), if_neg (by omega), if_neg (by omega), if_pos h1]; cases fLeft (fat (fl x.d) j) <;> rfl) | (rw [if_neg (by omega), if_neg (by omega), if_neg (by omega), if_neg (by omega), if_neg (by omega), if_neg (by omega), if_pos h1]; done) | (rw [if_neg (by omega), if_neg (by omega), if_neg (by omega), if_neg (by omega), if_neg (by omega), if_neg (by omega), if_neg (by omega)]; done)), hG⟩)
  refine r_tcase 6 (fun h1 => ?_) (fun h1_6 => ?_)
  · refine r_tableInZ (pc := 1) (off := 85) (tgt := 86) C dX0_simpleTold_1 (by unfold i32; omega) (by omega) (by omega) (by rw [h1]; rfl) (by decide) ?_
    refine r_aload_n (pc := 86) C dX0_simpleTold_86 rfl rfl ?_
    refine r_getN (pc := 87) (k := 5) (ci := 5) C dX0_simpleTold_87 (g1 hF) (show vwC[5]? = some (RX6, TX6, 7) from rfl) in_X6 (by decide) (C.nf (h1 := "RiverWords") (by decide +kernel)) (fun _ h => h) rfl ?_
    refine r_goto (pc := 90) (tgt := 97) C dX0_simpleTold_90 (by decide) ?_
    exact r_iret (pc := 97) C hQ dX0_simpleTold_97 (Nat.le_of_ble_eq_true rfl) (Nat.le_of_ble_eq_true rfl) (fun G hG => ⟨(by unfold sNow; first | (rw [if_pos h1]; done) | (rw [if_neg (by omega), if_pos h1]; done) | (rw [if_neg (by omega), if_neg (by omega), if_pos h1]; done) | (rw [if_neg (by omega), if_neg (by omega), if_neg (by omega), if_pos h1]; done) | (rw [if_neg (by omega), if_neg (by omega), if_neg (by omega), if_neg (by omega), if_pos h1]; done) | (rw [if_neg (by omega), if_neg (by omega), if_neg (by omega), if_neg (by omega), if_neg (by omega), if_pos h1]; cases fLeft (fat (fl x.d) j) <;> rfl) | (rw [if_neg (by omega), if_neg (by omega), if_neg (by omega), if_neg (by omega), if_neg (by omega), if_neg (by omega), if_pos h1]; done) | (rw [if_neg (by omega), if_neg (by omega), if_neg (by omega), if_neg (by omega), if_neg (by omega), if_neg (by omega), if_neg (by omega)]; done)), hG⟩)
  refine r_tableOutZ (pc := 1) (tgt := 93) C dX0_simpleTold_1 (by unfold i32; omega) (by omega) (by decide) ?_
  refine r_aload_n (pc := 93) C dX0_simpleTold_93 rfl rfl ?_
  refine r_getN (pc := 94) (k := 6) (ci := 5) C dX0_simpleTold_94 (g1 hF) (show vwC[5]? = some (RX6, TX6, 7) from rfl) in_X6 (by decide) (C.nf (h1 := "RiverWords") (by decide +kernel)) (fun _ h => h) rfl ?_
  exact r_iret (pc := 97) C hQ dX0_simpleTold_97 (Nat.le_of_ble_eq_true rfl) (Nat.le_of_ble_eq_true rfl) (fun G hG => ⟨(by unfold sNow; first | (rw [if_pos h1]; done) | (rw [if_neg (by omega), if_pos h1]; done) | (rw [if_neg (by omega), if_neg (by omega), if_pos h1]; done) | (rw [if_neg (by omega), if_neg (by omega), if_neg (by omega), if_pos h1]; done) | (rw [if_neg (by omega), if_neg (by omega), if_neg (by omega), if_neg (by omega), if_pos h1]; done) | (rw [if_neg (by omega), if_neg (by omega), if_neg (by omega), if_neg (by omega), if_neg (by omega), if_pos h1]; cases fLeft (fat (fl x.d) j) <;> rfl) | (rw [if_neg (by omega), if_neg (by omega), if_neg (by omega), if_neg (by omega), if_neg (by omega), if_neg (by omega), if_pos h1]; done) | (rw [if_neg (by omega), if_neg (by omega), if_neg (by omega), if_neg (by omega), if_neg (by omega), if_neg (by omega), if_neg (by omega)]; done)), hG⟩)
set_option maxHeartbeats 800000 in
theorem xo_simple {la : Launch} {X : XE} {G0 : Gh} {xh : Nat} {x : AS} {A : Nat → Nat} {dr : Int} {rls : List Nat} {rm : Nat} {fls : List Nat} {fm : Nat} {cls : List Nat} {cm : Nat} (h : CW X G0 xh x A dr rls rm fls fm cls cm) (f k : Int) (hf : i32 f) (hk : i32 k) : MG la X yX0_simple cX0_simple 3 (some .int) (rmk 3 0 0 64) [.ref xh, .int (iI f), .int (iI k)] (fun G => G = G0) (fun zv G => zv = some (.int (iI (sSimple x.d f k))) ∧ G = G0) := by
  refine MG.of (by decide +kernel) (Nat.le_of_ble_eq_true rfl) ?_
  intro Z C hX hL hQ
  subst hX; subst hL
  change WW Z 3 (fun G => G = G0) 0 0 0 [some (.ref xh), some (.int (iI f)), some (.int (iI k))] []
  refine r_aload_n (pc := 0) C dX0_simple_0 rfl rfl ?_
  refine r_iload_n (pc := 1) C dX0_simple_1 rfl rfl ?_
  refine r_invV (pc := 2) (ci := 0) 1 C dX0_simple_2 (xo_isForm h f hf) (g2 h.ob) (show vwC[0]? = some (RX0, TX0, 10) from rfl) rfl (lw_V q1043 q1045 qs14 q81 q1046) (by decide +kernel) rfl rfl ⟨Nat.le_of_ble_eq_true rfl, Nat.le_of_ble_eq_true rfl⟩ (Nat.le_of_ble_eq_true rfl) ⟨Nat.le_of_ble_eq_true rfl, Nat.le_of_ble_eq_true rfl⟩ (rd_k ?_)
  refine r_if_neB (pc := 5) (tgt := 11) C dX0_simple_5 (by decide)  (fun h5 => ?_) (fun h5 => ?_)
  · refine r_iload_n (pc := 11) C dX0_simple_11 rfl rfl ?_
    refine r_iconstZ (pc := 12) C dX0_simple_12 ?_
    refine r_bipushZ (pc := 13) C dX0_simple_13 (by decide) ?_
    refine r_invP (pc := 15) 3 C dX0_simple_15 (xf_in k 0 7 hk i32_0 (by unfold i32; omega)) rfl (lw_S q311 q312 q81 q313) (by decide +kernel) rfl rfl ⟨Nat.le_of_ble_eq_true rfl, Nat.le_of_ble_eq_true rfl⟩ (Nat.le_of_ble_eq_true rfl) ⟨Nat.le_of_ble_eq_true rfl, Nat.le_of_ble_eq_true rfl⟩ ?_
    refine r_if_eqB (pc := 18) (tgt := 40) C dX0_simple_18 (by decide)  (fun h18 => ?_) (fun h18 => ?_)
    · refine r_ldcZ (pc := 40) (a := -2000000102) C dX0_simple_40 rfl q314 (by decide) ?_
      exact r_iret (pc := 42) C hQ dX0_simple_42 (Nat.le_of_ble_eq_true rfl) (Nat.le_of_ble_eq_true rfl) (fun G hG => ⟨(by unfold sSimple; first | (rw [if_neg h5]; done) | (rw [if_pos h5, if_neg h18]; done) | (rw [if_pos h5, if_pos h18]; done)), hG⟩)
    · refine r_aload_n (pc := 21) C dX0_simple_21 rfl rfl ?_
      refine r_aload_n (pc := 22) C dX0_simple_22 rfl rfl ?_
      refine r_get (pc := 23) (k := 7) (ci := 0) C dX0_simple_23 (g1 h.ob) (show vwC[0]? = some (RX0, TX0, 10) from rfl) in_X0 (by decide) (C.t _ q283) (fun _ h => h) rfl ?_
      refine r_iload_n (pc := 26) C dX0_simple_26 rfl rfl ?_
      refine r_invV (pc := 27) (ci := 8) 1 C dX0_simple_27 (jl_get f h.fll (h.fix h5)) (gLs h.fll) (show vwC[8]? = some (RJ6, TJ6, 3) from rfl) rfl (lw_V q670 q671 q672 q89 q673) (by decide +kernel) rfl rfl ⟨Nat.le_of_ble_eq_true rfl, Nat.le_of_ble_eq_true rfl⟩ (Nat.le_of_ble_eq_true rfl) ⟨Nat.le_of_ble_eq_true rfl, Nat.le_of_ble_eq_true rfl⟩ (rd_k ?_)
      refine r_castO (pc := 30) (ci := 5) C dX0_simple_30 (g2 (h.fs.2.1 f.toNat (show f.toNat < nR x.d by omega))) (show vwC[5]? = some (RX6, TX6, 7) from rfl) q810 ?_
      refine r_iload_n (pc := 33) C dX0_simple_33 rfl rfl ?_
      refine r_invV (pc := 34) (ci := 0) 2 C dX0_simple_34 (xo_simpleTold h f.toNat k (by omega) h18) (g2 h.ob) (show vwC[0]? = some (RX0, TX0, 10) from rfl) rfl (lw_V q1047 q1049 qs15 q81 q1050) (by decide +kernel) rfl rfl ⟨Nat.le_of_ble_eq_true rfl, Nat.le_of_ble_eq_true rfl⟩ (Nat.le_of_ble_eq_true rfl) ⟨Nat.le_of_ble_eq_true rfl, Nat.le_of_ble_eq_true rfl⟩ (rd_k ?_)
      refine r_goto (pc := 37) (tgt := 42) C dX0_simple_37 (by decide) ?_
      exact r_iret (pc := 42) C hQ dX0_simple_42 (Nat.le_of_ble_eq_true rfl) (Nat.le_of_ble_eq_true rfl) (fun G hG => ⟨(by unfold sSimple; first | (rw [if_neg h5]; done) | (rw [if_pos h5, if_neg h18]; done) | (rw [if_pos h5, if_pos h18]; done)), hG⟩)
  · refine r_ldcZ (pc := 8) (a := -2000000101) C dX0_simple_8 rfl q669 (by decide) ?_
    exact r_iret (pc := 10) C hQ dX0_simple_10 (Nat.le_of_ble_eq_true rfl) (Nat.le_of_ble_eq_true rfl) (fun G hG => ⟨(by unfold sSimple; first | (rw [if_neg h5]; done) | (rw [if_pos h5, if_neg h18]; done) | (rw [if_pos h5, if_pos h18]; done)), hG⟩)
set_option maxHeartbeats 800000 in
theorem xo_cycleTold {la : Launch} {X : XE} {G0 : Gh} {xh : Nat} {x : AS} {A : Nat → Nat} {dr : Int} {rls : List Nat} {rm : Nat} {fls : List Nat} {fm : Nat} {cls : List Nat} {cm : Nat} (h : CW X G0 xh x A dr rls rm fls fm cls cm) (c : Nat) (k : Int) (hc : c < nC x.d) (hk : 0 ≤ k ∧ k ≤ 4) : MG la X yX0_cycleTold cX0_cycleTold 3 (some .int) (rmk 6 0 0 132) [.ref xh, .ref (cls.getD c 0), .int (iI k)] (fun G => G = G0) (fun zv G => zv = some (.int (iI (cTold x.d c k))) ∧ G = G0) := by
  refine MG.of (by decide +kernel) (Nat.le_of_ble_eq_true rfl) ?_
  intro Z C hX hL hQ
  subst hX; subst hL
  change WW Z 3 (fun G => G = G0) 0 0 0 [some (.ref xh), some (.ref (cls.getD c 0)), some (.int (iI k))] []
  have hC := h.cy hc
  have hlt := fC_lt h.rv hc
  have hF := h.fs.2.1 (fC x.d c) hlt
  have hb := ix_mem (fl_back h.rv (fat_mem hlt))
  have hm := ix_mem (fl_mirr h.rv (fat_mem hlt))
  have hbk : bkZ (fl x.d) (fC x.d c) = (ix (fl x.d) (backF (fat (fl x.d) (fC x.d c))) : Nat) := if_pos hb.1
  have hmr : mrZ (fl x.d) (fC x.d c) = (ix (fl x.d) (mirrF (fat (fl x.d) (fC x.d c))) : Nat) := if_pos hm.1
  have hwl : (wC x.d c).length ≤ 20000 := by rw [wC_len]; have := pC_b h.rv hc; have := nR_le h.rv; omega
  obtain ⟨s, m, k1, k2⟩ := id hC
  refine r_iload_n (pc := 0) C dX0_cycleTold_0 rfl rfl ?_
  refine r_tcase 0 (fun h1 => ?_) (fun h1_0 => ?_)
  · refine r_tableInZ (pc := 1) (off := 31) (tgt := 32) C dX0_cycleTold_1 (by unfold i32; omega) (by omega) (by omega) (by rw [h1]; rfl) (by decide) ?_
    refine r_aload_n (pc := 32) C dX0_cycleTold_32 rfl rfl ?_
    refine r_getN (pc := 33) (k := 0) (ci := 6) C dX0_cycleTold_33 (g1 k1) (show vwC[6]? = some (RX7, TX7, 3) from rfl) in_X7 (by decide) (C.nf (h1 := "RiverWords") (by decide +kernel)) (fun _ h => h) rfl ?_
    refine r_goto (pc := 36) (tgt := 118) C dX0_cycleTold_36 (by decide) ?_
    exact r_iret (pc := 118) C hQ dX0_cycleTold_118 (Nat.le_of_ble_eq_true rfl) (Nat.le_of_ble_eq_true rfl) (fun G hG => ⟨(by unfold cTold; first | (rw [if_pos h1]; done) | (rw [if_neg (by omega), if_pos h1]; done) | (rw [if_neg (by omega), if_neg (by omega), if_pos h1]; done) | (rw [if_neg (by omega), if_neg (by omega), if_neg (by omega), if_pos h1]; done) | (rw [if_neg (by omega), if_neg (by omega), if_neg (by omega), if_neg (by omega)]; done)), hG⟩)
  refine r_tcase 1 (fun h1 => ?_) (fun h1_1 => ?_)
  · refine r_tableInZ (pc := 1) (off := 38) (tgt := 39) C dX0_cycleTold_1 (by unfold i32; omega) (by omega) (by omega) (by rw [h1]; rfl) (by decide) ?_
    refine r_aload_n (pc := 39) C dX0_cycleTold_39 rfl rfl ?_
    refine r_invD (pc := 40) (ci := 6) (owner := "RiverWords$Worded") (x2 := ⟨"RiverWords$Cycle", "length", "()I"⟩) 0 C dX0_cycleTold_40 (xc_length hC) (gCy hC) (show vwC[6]? = some (RX7, TX7, 3) from rfl) rfl (lw_meth q690) q100 q688 (by decide +kernel) (by decide +kernel) (by decide +kernel) (by decide +kernel) (by decide +kernel) rfl rfl ⟨Nat.le_of_ble_eq_true rfl, Nat.le_of_ble_eq_true rfl⟩ (Nat.le_of_ble_eq_true rfl) ⟨Nat.le_of_ble_eq_true rfl, Nat.le_of_ble_eq_true rfl⟩ (rd_k ?_)
    refine r_goto (pc := 43) (tgt := 118) C dX0_cycleTold_43 (by decide) ?_
    exact r_iret (pc := 118) C hQ dX0_cycleTold_118 (Nat.le_of_ble_eq_true rfl) (Nat.le_of_ble_eq_true rfl) (fun G hG => ⟨(by unfold cTold; first | (rw [if_pos h1]; done) | (rw [if_neg (by omega), if_pos h1]; done) | (rw [if_neg (by omega), if_neg (by omega), if_pos h1]; done) | (rw [if_neg (by omega), if_neg (by omega), if_neg (by omega), if_pos h1]; done) | (rw [if_neg (by omega), if_neg (by omega), if_neg (by omega), if_neg (by omega)]; done)), hG⟩)
  refine r_tcase 2 (fun h1 => ?_) (fun h1_2 => ?_)
  · refine r_tableInZ (pc := 1) (off := 45) (tgt := 46) C dX0_cycleTold_1 (by unfold i32; omega) (by omega) (by omega) (by rw [h1]; rfl) (by decide) ?_
    refine r_aload_n (pc := 46) C dX0_cycleTold_46 rfl rfl ?_
    refine r_bipushZ (pc := 47) C dX0_cycleTold_47 (by decide) ?_
    rw [show (76 : Int) = codeB false from rfl]
    refine r_invD (pc := 49) (ci := 6) (owner := "RiverWords$Worded") (x2 := ⟨"RiverWords$Cycle", "many", "(C)I"⟩) 1 C dX0_cycleTold_49 (xc_many false hC hwl) (gCy hC) (show vwC[6]? = some (RX7, TX7, 3) from rfl) rfl (lw_meth q713) q100 q711 (by decide +kernel) (by decide +kernel) (by decide +kernel) (by decide +kernel) (by decide +kernel) rfl rfl ⟨Nat.le_of_ble_eq_true rfl, Nat.le_of_ble_eq_true rfl⟩ (Nat.le_of_ble_eq_true rfl) ⟨Nat.le_of_ble_eq_true rfl, Nat.le_of_ble_eq_true rfl⟩ (rd_k ?_)
    rw [many_L]
    refine r_goto (pc := 52) (tgt := 118) C dX0_cycleTold_52 (by decide) ?_
    exact r_iret (pc := 118) C hQ dX0_cycleTold_118 (Nat.le_of_ble_eq_true rfl) (Nat.le_of_ble_eq_true rfl) (fun G hG => ⟨(by unfold cTold; first | (rw [if_pos h1]; done) | (rw [if_neg (by omega), if_pos h1]; done) | (rw [if_neg (by omega), if_neg (by omega), if_pos h1]; done) | (rw [if_neg (by omega), if_neg (by omega), if_neg (by omega), if_pos h1]; done) | (rw [if_neg (by omega), if_neg (by omega), if_neg (by omega), if_neg (by omega)]; done)), hG⟩)
  refine r_tcase 3 (fun h1 => ?_) (fun h1_3 => ?_)
  · refine r_tableInZ (pc := 1) (off := 54) (tgt := 55) C dX0_cycleTold_1 (by unfold i32; omega) (by omega) (by omega) (by rw [h1]; rfl) (by decide) ?_
    refine r_aload_n (pc := 55) C dX0_cycleTold_55 rfl rfl ?_
    refine r_get (pc := 56) (k := 7) (ci := 0) C dX0_cycleTold_56 (g1 h.ob) (show vwC[0]? = some (RX0, TX0, 10) from rfl) in_X0 (by decide) (C.t _ q283) (fun _ h => h) rfl ?_
    refine r_aload_n (pc := 59) C dX0_cycleTold_59 rfl rfl ?_
    refine r_get (pc := 60) (k := 7) (ci := 0) C dX0_cycleTold_60 (g1 h.ob) (show vwC[0]? = some (RX0, TX0, 10) from rfl) in_X0 (by decide) (C.t _ q283) (fun _ h => h) rfl ?_
    refine r_aload_n (pc := 63) C dX0_cycleTold_63 rfl rfl ?_
    refine r_getN (pc := 64) (k := 0) (ci := 6) C dX0_cycleTold_64 (g1 k1) (show vwC[6]? = some (RX7, TX7, 3) from rfl) in_X7 (by decide) (C.nf (h1 := "RiverWords") (by decide +kernel)) (fun _ h => h) rfl ?_
    refine r_invV (pc := 67) (ci := 8) 1 C dX0_cycleTold_67 (jl_get (fC x.d c : Nat) h.fll ⟨by omega, by rw [h.fn]; omega⟩) (gLs h.fll) (show vwC[8]? = some (RJ6, TJ6, 3) from rfl) rfl (lw_V q670 q671 q672 q89 q673) (by decide +kernel) rfl rfl ⟨Nat.le_of_ble_eq_true rfl, Nat.le_of_ble_eq_true rfl⟩ (Nat.le_of_ble_eq_true rfl) ⟨Nat.le_of_ble_eq_true rfl, Nat.le_of_ble_eq_true rfl⟩ (rd_k ?_)
    rw [show (((fC x.d c : Nat) : Int)).toNat = fC x.d c from rfl]
    refine r_castO (pc := 70) (ci := 5) C dX0_cycleTold_70 (g2 hF) (show vwC[5]? = some (RX6, TX6, 7) from rfl) q810 ?_
    refine r_getN (pc := 73) (k := 5) (ci := 5) C dX0_cycleTold_73 (g1 hF) (show vwC[5]? = some (RX6, TX6, 7) from rfl) in_X6 (by decide) (C.nf (h1 := "RiverWords") (by decide +kernel)) (fun _ h => h) rfl ?_
    rw [hbk]
    refine r_invV (pc := 76) (ci := 8) 1 C dX0_cycleTold_76 (jl_get (ix (fl x.d) (backF (fat (fl x.d) (fC x.d c))) : Nat) h.fll ⟨by omega, by rw [h.fn]; exact Int.ofNat_lt.mpr hb.1⟩) (gLs h.fll) (show vwC[8]? = some (RJ6, TJ6, 3) from rfl) rfl (lw_V q670 q671 q672 q89 q673) (by decide +kernel) rfl rfl ⟨Nat.le_of_ble_eq_true rfl, Nat.le_of_ble_eq_true rfl⟩ (Nat.le_of_ble_eq_true rfl) ⟨Nat.le_of_ble_eq_true rfl, Nat.le_of_ble_eq_true rfl⟩ (rd_k ?_)
    rw [show (((ix (fl x.d) (backF (fat (fl x.d) (fC x.d c))) : Nat) : Int)).toNat = ix (fl x.d) (backF (fat (fl x.d) (fC x.d c))) from rfl]
    refine r_castO (pc := 79) (ci := 5) C dX0_cycleTold_79 (g2 (h.fs.2.1 _ hb.1)) (show vwC[5]? = some (RX6, TX6, 7) from rfl) q810 ?_
    refine r_getN (pc := 82) (k := 3) (ci := 5) C dX0_cycleTold_82 (g1 (h.fs.2.1 _ hb.1)) (show vwC[5]? = some (RX6, TX6, 7) from rfl) in_X6 (by decide) (C.nf (h1 := "RiverWords") (by decide +kernel)) (fun _ h => h) rfl ?_
    refine r_goto (pc := 85) (tgt := 118) C dX0_cycleTold_85 (by decide) ?_
    exact r_iret (pc := 118) C hQ dX0_cycleTold_118 (Nat.le_of_ble_eq_true rfl) (Nat.le_of_ble_eq_true rfl) (fun G hG => ⟨(by unfold cTold; first | (rw [if_pos h1]; done) | (rw [if_neg (by omega), if_pos h1]; done) | (rw [if_neg (by omega), if_neg (by omega), if_pos h1]; done) | (rw [if_neg (by omega), if_neg (by omega), if_neg (by omega), if_pos h1]; done) | (rw [if_neg (by omega), if_neg (by omega), if_neg (by omega), if_neg (by omega)]; done)), hG⟩)
  refine r_tableOutZ (pc := 1) (tgt := 88) C dX0_cycleTold_1 (by unfold i32; omega) (by omega) (by decide) ?_
  refine r_aload_n (pc := 88) C dX0_cycleTold_88 rfl rfl ?_
  refine r_get (pc := 89) (k := 7) (ci := 0) C dX0_cycleTold_89 (g1 h.ob) (show vwC[0]? = some (RX0, TX0, 10) from rfl) in_X0 (by decide) (C.t _ q283) (fun _ h => h) rfl ?_
  refine r_aload_n (pc := 92) C dX0_cycleTold_92 rfl rfl ?_
  refine r_get (pc := 93) (k := 7) (ci := 0) C dX0_cycleTold_93 (g1 h.ob) (show vwC[0]? = some (RX0, TX0, 10) from rfl) in_X0 (by decide) (C.t _ q283) (fun _ h => h) rfl ?_
  refine r_aload_n (pc := 96) C dX0_cycleTold_96 rfl rfl ?_
  refine r_getN (pc := 97) (k := 0) (ci := 6) C dX0_cycleTold_97 (g1 k1) (show vwC[6]? = some (RX7, TX7, 3) from rfl) in_X7 (by decide) (C.nf (h1 := "RiverWords") (by decide +kernel)) (fun _ h => h) rfl ?_
  refine r_invV (pc := 100) (ci := 8) 1 C dX0_cycleTold_100 (jl_get (fC x.d c : Nat) h.fll ⟨by omega, by rw [h.fn]; omega⟩) (gLs h.fll) (show vwC[8]? = some (RJ6, TJ6, 3) from rfl) rfl (lw_V q670 q671 q672 q89 q673) (by decide +kernel) rfl rfl ⟨Nat.le_of_ble_eq_true rfl, Nat.le_of_ble_eq_true rfl⟩ (Nat.le_of_ble_eq_true rfl) ⟨Nat.le_of_ble_eq_true rfl, Nat.le_of_ble_eq_true rfl⟩ (rd_k ?_)
  rw [show (((fC x.d c : Nat) : Int)).toNat = fC x.d c from rfl]
  refine r_castO (pc := 103) (ci := 5) C dX0_cycleTold_103 (g2 hF) (show vwC[5]? = some (RX6, TX6, 7) from rfl) q810 ?_
  refine r_getN (pc := 106) (k := 6) (ci := 5) C dX0_cycleTold_106 (g1 hF) (show vwC[5]? = some (RX6, TX6, 7) from rfl) in_X6 (by decide) (C.nf (h1 := "RiverWords") (by decide +kernel)) (fun _ h => h) rfl ?_
  rw [hmr]
  refine r_invV (pc := 109) (ci := 8) 1 C dX0_cycleTold_109 (jl_get (ix (fl x.d) (mirrF (fat (fl x.d) (fC x.d c))) : Nat) h.fll ⟨by omega, by rw [h.fn]; exact Int.ofNat_lt.mpr hm.1⟩) (gLs h.fll) (show vwC[8]? = some (RJ6, TJ6, 3) from rfl) rfl (lw_V q670 q671 q672 q89 q673) (by decide +kernel) rfl rfl ⟨Nat.le_of_ble_eq_true rfl, Nat.le_of_ble_eq_true rfl⟩ (Nat.le_of_ble_eq_true rfl) ⟨Nat.le_of_ble_eq_true rfl, Nat.le_of_ble_eq_true rfl⟩ (rd_k ?_)
  rw [show (((ix (fl x.d) (mirrF (fat (fl x.d) (fC x.d c))) : Nat) : Int)).toNat = ix (fl x.d) (mirrF (fat (fl x.d) (fC x.d c))) from rfl]
  refine r_castO (pc := 112) (ci := 5) C dX0_cycleTold_112 (g2 (h.fs.2.1 _ hm.1)) (show vwC[5]? = some (RX6, TX6, 7) from rfl) q810 ?_
  refine r_getN (pc := 115) (k := 3) (ci := 5) C dX0_cycleTold_115 (g1 (h.fs.2.1 _ hm.1)) (show vwC[5]? = some (RX6, TX6, 7) from rfl) in_X6 (by decide) (C.nf (h1 := "RiverWords") (by decide +kernel)) (fun _ h => h) rfl ?_
  exact r_iret (pc := 118) C hQ dX0_cycleTold_118 (Nat.le_of_ble_eq_true rfl) (Nat.le_of_ble_eq_true rfl) (fun G hG => ⟨(by unfold cTold; first | (rw [if_pos h1]; done) | (rw [if_neg (by omega), if_pos h1]; done) | (rw [if_neg (by omega), if_neg (by omega), if_pos h1]; done) | (rw [if_neg (by omega), if_neg (by omega), if_neg (by omega), if_pos h1]; done) | (rw [if_neg (by omega), if_neg (by omega), if_neg (by omega), if_neg (by omega)]; done)), hG⟩)
set_option maxHeartbeats 800000 in
theorem xo_cycle {la : Launch} {X : XE} {G0 : Gh} {xh : Nat} {x : AS} {A : Nat → Nat} {dr : Int} {rls : List Nat} {rm : Nat} {fls : List Nat} {fm : Nat} {cls : List Nat} {cm : Nat} (h : CW X G0 xh x A dr rls rm fls fm cls cm) (c k : Int) (hc : i32 c) (hk : i32 k) : MG la X yX0_cycle cX0_cycle 3 (some .int) (rmk 7 0 0 154) [.ref xh, .int (iI c), .int (iI k)] (fun G => G = G0) (fun zv G => zv = some (.int (iI (sCycle x.d c k))) ∧ G = G0) := by
  refine MG.of (by decide +kernel) (Nat.le_of_ble_eq_true rfl) ?_
  intro Z C hX hL hQ
  subst hX; subst hL
  change WW Z 3 (fun G => G = G0) 0 0 0 [some (.ref xh), some (.int (iI c)), some (.int (iI k))] []
  refine r_aload_n (pc := 0) C dX0_cycle_0 rfl rfl ?_
  refine r_iload_n (pc := 1) C dX0_cycle_1 rfl rfl ?_
  refine r_invV (pc := 2) (ci := 0) 1 C dX0_cycle_2 (xo_isCycle h c hc) (g2 h.ob) (show vwC[0]? = some (RX0, TX0, 10) from rfl) rfl (lw_V q1055 q1057 qs16 q81 q1058) (by decide +kernel) rfl rfl ⟨Nat.le_of_ble_eq_true rfl, Nat.le_of_ble_eq_true rfl⟩ (Nat.le_of_ble_eq_true rfl) ⟨Nat.le_of_ble_eq_true rfl, Nat.le_of_ble_eq_true rfl⟩ (rd_k ?_)
  refine r_if_neB (pc := 5) (tgt := 11) C dX0_cycle_5 (by decide)  (fun h5 => ?_) (fun h5 => ?_)
  · refine r_iload_n (pc := 11) C dX0_cycle_11 rfl rfl ?_
    refine r_iconstZ (pc := 12) C dX0_cycle_12 ?_
    refine r_iconstZ (pc := 13) C dX0_cycle_13 ?_
    refine r_invP (pc := 14) 3 C dX0_cycle_14 (xf_in k 0 4 hk i32_0 (by unfold i32; omega)) rfl (lw_S q311 q312 q81 q313) (by decide +kernel) rfl rfl ⟨Nat.le_of_ble_eq_true rfl, Nat.le_of_ble_eq_true rfl⟩ (Nat.le_of_ble_eq_true rfl) ⟨Nat.le_of_ble_eq_true rfl, Nat.le_of_ble_eq_true rfl⟩ ?_
    refine r_if_eqB (pc := 17) (tgt := 39) C dX0_cycle_17 (by decide)  (fun h17 => ?_) (fun h17 => ?_)
    · refine r_ldcZ (pc := 39) (a := -2000000102) C dX0_cycle_39 rfl q314 (by decide) ?_
      exact r_iret (pc := 41) C hQ dX0_cycle_41 (Nat.le_of_ble_eq_true rfl) (Nat.le_of_ble_eq_true rfl) (fun G hG => ⟨(by unfold sCycle; first | (rw [if_neg h5]; done) | (rw [if_pos h5, if_neg h17]; done) | (rw [if_pos h5, if_pos h17]; done)), hG⟩)
    · refine r_aload_n (pc := 20) C dX0_cycle_20 rfl rfl ?_
      refine r_aload_n (pc := 21) C dX0_cycle_21 rfl rfl ?_
      refine r_get (pc := 22) (k := 8) (ci := 0) C dX0_cycle_22 (g1 h.ob) (show vwC[0]? = some (RX0, TX0, 10) from rfl) in_X0 (by decide) (C.t _ q284) (fun _ h => h) rfl ?_
      refine r_iload_n (pc := 25) C dX0_cycle_25 rfl rfl ?_
      refine r_invV (pc := 26) (ci := 8) 1 C dX0_cycle_26 (jl_get c h.cl (h.cix h5)) (gLs h.cl) (show vwC[8]? = some (RJ6, TJ6, 3) from rfl) rfl (lw_V q670 q671 q672 q89 q673) (by decide +kernel) rfl rfl ⟨Nat.le_of_ble_eq_true rfl, Nat.le_of_ble_eq_true rfl⟩ (Nat.le_of_ble_eq_true rfl) ⟨Nat.le_of_ble_eq_true rfl, Nat.le_of_ble_eq_true rfl⟩ (rd_k ?_)
      refine r_castO (pc := 29) (ci := 6) C dX0_cycle_29 (gCy (h.cy (c := c.toNat) (by omega))) (show vwC[6]? = some (RX7, TX7, 3) from rfl) q1015 ?_
      refine r_iload_n (pc := 32) C dX0_cycle_32 rfl rfl ?_
      refine r_invV (pc := 33) (ci := 0) 2 C dX0_cycle_33 (xo_cycleTold h c.toNat k (by omega) h17) (g2 h.ob) (show vwC[0]? = some (RX0, TX0, 10) from rfl) rfl (lw_V q1059 q1061 qs17 q81 q1062) (by decide +kernel) rfl rfl ⟨Nat.le_of_ble_eq_true rfl, Nat.le_of_ble_eq_true rfl⟩ (Nat.le_of_ble_eq_true rfl) ⟨Nat.le_of_ble_eq_true rfl, Nat.le_of_ble_eq_true rfl⟩ (rd_k ?_)
      refine r_goto (pc := 36) (tgt := 41) C dX0_cycle_36 (by decide) ?_
      exact r_iret (pc := 41) C hQ dX0_cycle_41 (Nat.le_of_ble_eq_true rfl) (Nat.le_of_ble_eq_true rfl) (fun G hG => ⟨(by unfold sCycle; first | (rw [if_neg h5]; done) | (rw [if_pos h5, if_neg h17]; done) | (rw [if_pos h5, if_pos h17]; done)), hG⟩)
  · refine r_ldcZ (pc := 8) (a := -2000000101) C dX0_cycle_8 rfl q669 (by decide) ?_
    exact r_iret (pc := 10) C hQ dX0_cycle_10 (Nat.le_of_ble_eq_true rfl) (Nat.le_of_ble_eq_true rfl) (fun G hG => ⟨(by unfold sCycle; first | (rw [if_neg h5]; done) | (rw [if_pos h5, if_neg h17]; done) | (rw [if_pos h5, if_pos h17]; done)), hG⟩)
set_option maxHeartbeats 800000 in
theorem xo_step {la : Launch} {X : XE} {G0 : Gh} {xh : Nat} {x : AS} {A : Nat → Nat} {dr : Int} {rls : List Nat} {rm : Nat} {fls : List Nat} {fm : Nat} {cls : List Nat} {cm : Nat} (h : CW X G0 xh x A dr rls rm fls fm cls cm) (c k : Int) (hc : i32 c) (hk : i32 k) : MG la X yX0_step cX0_step 3 (some .int) (rmk 5 0 0 109) [.ref xh, .int (iI c), .int (iI k)] (fun G => G = G0) (fun zv G => zv = some (.int (iI (sStep x.d c k))) ∧ G = G0) := by
  refine MG.of (by decide +kernel) (Nat.le_of_ble_eq_true rfl) ?_
  intro Z C hX hL hQ
  subst hX; subst hL
  change WW Z 3 (fun G => G = G0) 0 0 0 [some (.ref xh), some (.int (iI c)), some (.int (iI k))] []
  refine r_aload_n (pc := 0) C dX0_step_0 rfl rfl ?_
  refine r_iload_n (pc := 1) C dX0_step_1 rfl rfl ?_
  refine r_invV (pc := 2) (ci := 0) 1 C dX0_step_2 (xo_isCycle h c hc) (g2 h.ob) (show vwC[0]? = some (RX0, TX0, 10) from rfl) rfl (lw_V q1055 q1057 qs16 q81 q1058) (by decide +kernel) rfl rfl ⟨Nat.le_of_ble_eq_true rfl, Nat.le_of_ble_eq_true rfl⟩ (Nat.le_of_ble_eq_true rfl) ⟨Nat.le_of_ble_eq_true rfl, Nat.le_of_ble_eq_true rfl⟩ (rd_k ?_)
  refine r_if_eqB (pc := 5) (tgt := 50) C dX0_step_5 (by decide)  (fun h5 => ?_) (fun h5 => ?_)
  · refine r_ldcZ (pc := 50) (a := -2000000101) C dX0_step_50 rfl q669 (by decide) ?_
    exact r_iret (pc := 52) C hQ dX0_step_52 (Nat.le_of_ble_eq_true rfl) (Nat.le_of_ble_eq_true rfl) (fun G hG => ⟨(by unfold sStep; first | (rw [if_neg h5]; done) | (rw [if_pos h5, if_neg h29]; done) | (rw [if_pos h5, if_pos h29]; rfl)), hG⟩)
  · refine r_iload_n (pc := 8) C dX0_step_8 rfl rfl ?_
    refine r_iconstZ (pc := 9) C dX0_step_9 ?_
    refine r_aload_n (pc := 10) C dX0_step_10 rfl rfl ?_
    refine r_get (pc := 11) (k := 8) (ci := 0) C dX0_step_11 (g1 h.ob) (show vwC[0]? = some (RX0, TX0, 10) from rfl) in_X0 (by decide) (C.t _ q284) (fun _ h => h) rfl ?_
    refine r_iload_n (pc := 14) C dX0_step_14 rfl rfl ?_
    refine r_invV (pc := 15) (ci := 8) 1 C dX0_step_15 (jl_get c h.cl (h.cix h5)) (gLs h.cl) (show vwC[8]? = some (RJ6, TJ6, 3) from rfl) rfl (lw_V q670 q671 q672 q89 q673) (by decide +kernel) rfl rfl ⟨Nat.le_of_ble_eq_true rfl, Nat.le_of_ble_eq_true rfl⟩ (Nat.le_of_ble_eq_true rfl) ⟨Nat.le_of_ble_eq_true rfl, Nat.le_of_ble_eq_true rfl⟩ (rd_k ?_)
    refine r_castO (pc := 18) (ci := 6) C dX0_step_18 (gCy (h.cy (c := c.toNat) (by omega))) (show vwC[6]? = some (RX7, TX7, 3) from rfl) q1015 ?_
    refine r_invD (pc := 21) (ci := 6) (owner := "RiverWords$Worded") (x2 := ⟨"RiverWords$Cycle", "length", "()I"⟩) 0 C dX0_step_21 (xc_length (h.cy (c := c.toNat) (by omega))) (gCy (h.cy (c := c.toNat) (by omega))) (show vwC[6]? = some (RX7, TX7, 3) from rfl) rfl (lw_meth q690) q100 q688 (by decide +kernel) (by decide +kernel) (by decide +kernel) (by decide +kernel) (by decide +kernel) rfl rfl ⟨Nat.le_of_ble_eq_true rfl, Nat.le_of_ble_eq_true rfl⟩ (Nat.le_of_ble_eq_true rfl) ⟨Nat.le_of_ble_eq_true rfl, Nat.le_of_ble_eq_true rfl⟩ (rd_k ?_)
    refine r_iconstZ (pc := 24) C dX0_step_24 ?_
    refine r_isubZ (pc := 25) C dX0_step_25 ?_
    have hwl : (wC x.d c.toNat).length ≤ 1098 := (by rw [wC_len]; have := pC_b h.rv (c := c.toNat) (by omega); have := nR_le h.rv; omega)
    refine r_invP (pc := 26) 3 C dX0_step_26 (xf_in k 0 (((wC x.d c.toNat).length : Nat) - 1) hk i32_0 (by unfold i32; omega)) rfl (lw_S q311 q312 q81 q313) (by decide +kernel) rfl rfl ⟨Nat.le_of_ble_eq_true rfl, Nat.le_of_ble_eq_true rfl⟩ (Nat.le_of_ble_eq_true rfl) ⟨Nat.le_of_ble_eq_true rfl, Nat.le_of_ble_eq_true rfl⟩ ?_
    refine r_if_eqB (pc := 29) (tgt := 50) C dX0_step_29 (by decide)  (fun h29 => ?_) (fun h29 => ?_)
    · refine r_ldcZ (pc := 50) (a := -2000000101) C dX0_step_50 rfl q669 (by decide) ?_
      exact r_iret (pc := 52) C hQ dX0_step_52 (Nat.le_of_ble_eq_true rfl) (Nat.le_of_ble_eq_true rfl) (fun G hG => ⟨(by unfold sStep; first | (rw [if_neg h5]; done) | (rw [if_pos h5, if_neg h29]; done) | (rw [if_pos h5, if_pos h29]; rfl)), hG⟩)
    · refine r_aload_n (pc := 32) C dX0_step_32 rfl rfl ?_
      refine r_get (pc := 33) (k := 8) (ci := 0) C dX0_step_33 (g1 h.ob) (show vwC[0]? = some (RX0, TX0, 10) from rfl) in_X0 (by decide) (C.t _ q284) (fun _ h => h) rfl ?_
      refine r_iload_n (pc := 36) C dX0_step_36 rfl rfl ?_
      refine r_invV (pc := 37) (ci := 8) 1 C dX0_step_37 (jl_get c h.cl (h.cix h5)) (gLs h.cl) (show vwC[8]? = some (RJ6, TJ6, 3) from rfl) rfl (lw_V q670 q671 q672 q89 q673) (by decide +kernel) rfl rfl ⟨Nat.le_of_ble_eq_true rfl, Nat.le_of_ble_eq_true rfl⟩ (Nat.le_of_ble_eq_true rfl) ⟨Nat.le_of_ble_eq_true rfl, Nat.le_of_ble_eq_true rfl⟩ (rd_k ?_)
      refine r_castO (pc := 40) (ci := 6) C dX0_step_40 (gCy (h.cy (c := c.toNat) (by omega))) (show vwC[6]? = some (RX7, TX7, 3) from rfl) q1015 ?_
      refine r_iload_n (pc := 43) C dX0_step_43 rfl rfl ?_
      refine r_invD (pc := 44) (ci := 6) (owner := "RiverWords$Worded") (x2 := ⟨"RiverWords$Cycle", "sign", "(I)C"⟩) 1 C dX0_step_44 (xc_sign k (h.cy (c := c.toNat) (by omega)) ⟨h29.1, by have := h29.2; omega⟩) (gCy (h.cy (c := c.toNat) (by omega))) (show vwC[6]? = some (RX7, TX7, 3) from rfl) rfl (lw_meth q725) q100 q723 (by decide +kernel) (by decide +kernel) (by decide +kernel) (by decide +kernel) (by decide +kernel) rfl rfl ⟨Nat.le_of_ble_eq_true rfl, Nat.le_of_ble_eq_true rfl⟩ (Nat.le_of_ble_eq_true rfl) ⟨Nat.le_of_ble_eq_true rfl, Nat.le_of_ble_eq_true rfl⟩ (rd_k ?_)
      refine r_goto (pc := 47) (tgt := 52) C dX0_step_47 (by decide) ?_
      exact r_iret (pc := 52) C hQ dX0_step_52 (Nat.le_of_ble_eq_true rfl) (Nat.le_of_ble_eq_true rfl) (fun G hG => ⟨(by unfold sStep; first | (rw [if_neg h5]; done) | (rw [if_pos h5, if_neg h29]; done) | (rw [if_pos h5, if_pos h29]; rfl)), hG⟩)
set_option maxHeartbeats 800000 in
theorem xo_trace {la : Launch} {X : XE} {G0 : Gh} {xh : Nat} {x : AS} {A : Nat → Nat} {dr : Int} {rls : List Nat} {rm : Nat} {fls : List Nat} {fm : Nat} {cls : List Nat} {cm : Nat} (h : CW X G0 xh x A dr rls rm fls fm cls cm) (c m : Int) (hc : i32 c) (hm : i32 m) : MG la X yX0_trace cX0_trace 3 (some .int) (rmk 5 0 0 115) [.ref xh, .int (iI c), .int (iI m)] (fun G => G = G0) (fun zv G => zv = some (.int (iI (sTrace x.d c m))) ∧ G = G0) := by
  refine MG.of (by decide +kernel) (Nat.le_of_ble_eq_true rfl) ?_
  intro Z C hX hL hQ
  subst hX; subst hL
  change WW Z 3 (fun G => G = G0) 0 0 0 [some (.ref xh), some (.int (iI c)), some (.int (iI m))] []
  refine r_aload_n (pc := 0) C dX0_trace_0 rfl rfl ?_
  refine r_iload_n (pc := 1) C dX0_trace_1 rfl rfl ?_
  refine r_invV (pc := 2) (ci := 0) 1 C dX0_trace_2 (xo_isCycle h c hc) (g2 h.ob) (show vwC[0]? = some (RX0, TX0, 10) from rfl) rfl (lw_V q1055 q1057 qs16 q81 q1058) (by decide +kernel) rfl rfl ⟨Nat.le_of_ble_eq_true rfl, Nat.le_of_ble_eq_true rfl⟩ (Nat.le_of_ble_eq_true rfl) ⟨Nat.le_of_ble_eq_true rfl, Nat.le_of_ble_eq_true rfl⟩ (rd_k ?_)
  refine r_if_neB (pc := 5) (tgt := 11) C dX0_trace_5 (by decide)  (fun h5 => ?_) (fun h5 => ?_)
  · refine r_iload_n (pc := 11) C dX0_trace_11 rfl rfl ?_
    refine r_iconstZ (pc := 12) C dX0_trace_12 ?_
    refine r_sipushZ (pc := 13) C dX0_trace_13 (by decide) ?_
    refine r_invP (pc := 16) 3 C dX0_trace_16 (xf_in m 2 1000 hm (by unfold i32; omega) (by unfold i32; omega)) rfl (lw_S q311 q312 q81 q313) (by decide +kernel) rfl rfl ⟨Nat.le_of_ble_eq_true rfl, Nat.le_of_ble_eq_true rfl⟩ (Nat.le_of_ble_eq_true rfl) ⟨Nat.le_of_ble_eq_true rfl, Nat.le_of_ble_eq_true rfl⟩ ?_
    refine r_if_eqB (pc := 19) (tgt := 43) C dX0_trace_19 (by decide)  (fun h19 => ?_) (fun h19 => ?_)
    · refine r_ldcZ (pc := 43) (a := -2000000102) C dX0_trace_43 rfl q314 (by decide) ?_
      exact r_iret (pc := 45) C hQ dX0_trace_45 (Nat.le_of_ble_eq_true rfl) (Nat.le_of_ble_eq_true rfl) (fun G hG => ⟨(by unfold sTrace; first | (rw [if_neg h5]; done) | (rw [if_pos h5, if_neg h19]; done) | (rw [if_pos h5, if_pos h19]; done)), hG⟩)
    · refine r_aload_n (pc := 22) C dX0_trace_22 rfl rfl ?_
      refine r_get (pc := 23) (k := 8) (ci := 0) C dX0_trace_23 (g1 h.ob) (show vwC[0]? = some (RX0, TX0, 10) from rfl) in_X0 (by decide) (C.t _ q284) (fun _ h => h) rfl ?_
      refine r_iload_n (pc := 26) C dX0_trace_26 rfl rfl ?_
      refine r_invV (pc := 27) (ci := 8) 1 C dX0_trace_27 (jl_get c h.cl (h.cix h5)) (gLs h.cl) (show vwC[8]? = some (RJ6, TJ6, 3) from rfl) rfl (lw_V q670 q671 q672 q89 q673) (by decide +kernel) rfl rfl ⟨Nat.le_of_ble_eq_true rfl, Nat.le_of_ble_eq_true rfl⟩ (Nat.le_of_ble_eq_true rfl) ⟨Nat.le_of_ble_eq_true rfl, Nat.le_of_ble_eq_true rfl⟩ (rd_k ?_)
      refine r_castO (pc := 30) (ci := 6) C dX0_trace_30 (gCy (h.cy (c := c.toNat) (by omega))) (show vwC[6]? = some (RX7, TX7, 3) from rfl) q1015 ?_
      obtain ⟨s, r, k1, k2⟩ := h.cy (c := c.toNat) (by omega)
      have hwl : (wC x.d c.toNat).length ≤ 1098 := (by rw [wC_len]; have := pC_b h.rv (c := c.toNat) (by omega); have := nR_le h.rv; omega)
      refine r_getN (pc := 33) (k := 1) (ci := 6) C dX0_trace_33 (g1 k1) (show vwC[6]? = some (RX7, TX7, 3) from rfl) in_X7 (by decide) (C.nf (h1 := "RiverWords") (by decide +kernel)) (fun _ h => h) rfl ?_
      refine r_iload_n (pc := 36) C dX0_trace_36 rfl rfl ?_
      refine r_invS (pc := 37) 2 C dX0_trace_37 (xo_traceBy m k2 (by omega) h19) rfl (lw_S q1071 q1072 q81 q1073) (by decide +kernel) rfl rfl ⟨Nat.le_of_ble_eq_true rfl, Nat.le_of_ble_eq_true rfl⟩ (Nat.le_of_ble_eq_true rfl) ⟨Nat.le_of_ble_eq_true rfl, Nat.le_of_ble_eq_true rfl⟩ (rd_k ?_)
      refine r_goto (pc := 40) (tgt := 45) C dX0_trace_40 (by decide) ?_
      exact r_iret (pc := 45) C hQ dX0_trace_45 (Nat.le_of_ble_eq_true rfl) (Nat.le_of_ble_eq_true rfl) (fun G hG => ⟨(by unfold sTrace; first | (rw [if_neg h5]; done) | (rw [if_pos h5, if_neg h19]; done) | (rw [if_pos h5, if_pos h19]; done)), hG⟩)
  · refine r_ldcZ (pc := 8) (a := -2000000101) C dX0_trace_8 rfl q669 (by decide) ?_
    exact r_iret (pc := 10) C hQ dX0_trace_10 (Nat.le_of_ble_eq_true rfl) (Nat.le_of_ble_eq_true rfl) (fun G hG => ⟨(by unfold sTrace; first | (rw [if_neg h5]; done) | (rw [if_pos h5, if_neg h19]; done) | (rw [if_pos h5, if_pos h19]; done)), hG⟩)
set_option maxHeartbeats 800000 in
theorem xo_lay {la : Launch} {X : XE} {G0 : Gh} {xh : Nat} {x : AS} {A : Nat → Nat} {dr : Int} {rls : List Nat} {rm : Nat} {fls : List Nat} {fm : Nat} {cls : List Nat} {cm : Nat} (h : CW X G0 xh x A dr rls rm fls fm cls cm) (c : Int) (hc : i32 c) : MG la X yX0_lay cX0_lay 2 (some .int) (rmk 8 24 1300 192) [.ref xh, .int (iI c)] (fun G => G = G0) (fun v G => v = some (.int (iI (sLay x.ws x.d c).1)) ∧ COMP X G xh (setws x (sLay x.ws x.d c).2) ∧ FR cT G0 G) := by
  refine MG.of (by decide +kernel) (Nat.le_of_ble_eq_true rfl) ?_
  intro Z C hX hL hQ
  subst hX; subst hL
  change WW Z 2 (fun G => G = G0) 0 0 0 [some (.ref xh), some (.int (iI c))] []
  refine r_aload_n (pc := 0) C dX0_lay_0 rfl rfl ?_
  refine r_iload_n (pc := 1) C dX0_lay_1 rfl rfl ?_
  refine r_invV (pc := 2) (ci := 0) 1 C dX0_lay_2 (xo_isCycle h c hc) (g2 h.ob) (show vwC[0]? = some (RX0, TX0, 10) from rfl) rfl (lw_V q1055 q1057 qs16 q81 q1058) (by decide +kernel) rfl rfl ⟨Nat.le_of_ble_eq_true rfl, Nat.le_of_ble_eq_true rfl⟩ (Nat.le_of_ble_eq_true rfl) ⟨(by first | exact Nat.le_of_ble_eq_true rfl | (dsimp only [rmk]; omega) | omega), (by first | exact Nat.le_of_ble_eq_true rfl | (dsimp only [rmk]; omega) | omega)⟩ (rd_k ?_)
  refine r_if_eqB (pc := 5) (tgt := 32) C dX0_lay_5 (by decide)  (fun h5 => ?_) (fun h5 => ?_)
  · refine r_ldcZ (pc := 32) (a := -2000000101) C dX0_lay_32 rfl q669 (by decide) ?_
    exact r_iret (pc := 34) C hQ dX0_lay_34 (by first | exact Nat.le_of_ble_eq_true rfl | (dsimp only [rmk]; omega) | omega) (by first | exact Nat.le_of_ble_eq_true rfl | (dsimp only [rmk]; omega) | omega) (fun G hG => (by cases hG; unfold sLay; first | (rw [if_neg h5]; exact ⟨rfl, h.comp, FR.rf⟩) | (rw [if_pos h5]; exact ⟨rfl, h5'.comp, (r2.nil _).tr (f3.wk (by decide))⟩)))
  · refine r_aload_n (pc := 8) C dX0_lay_8 rfl rfl ?_
    refine r_aload_n (pc := 9) C dX0_lay_9 rfl rfl ?_
    refine r_get (pc := 10) (k := 8) (ci := 0) C dX0_lay_10 (g1 h.ob) (show vwC[0]? = some (RX0, TX0, 10) from rfl) in_X0 (by decide) (C.t _ q284) (fun _ h => h) rfl ?_
    refine r_iload_n (pc := 13) C dX0_lay_13 rfl rfl ?_
    refine r_invV (pc := 14) (ci := 8) 1 C dX0_lay_14 (jl_get c h.cl (h.cix h5)) (gLs h.cl) (show vwC[8]? = some (RJ6, TJ6, 3) from rfl) rfl (lw_V q670 q671 q672 q89 q673) (by decide +kernel) rfl rfl ⟨Nat.le_of_ble_eq_true rfl, Nat.le_of_ble_eq_true rfl⟩ (Nat.le_of_ble_eq_true rfl) ⟨(by first | exact Nat.le_of_ble_eq_true rfl | (dsimp only [rmk]; omega) | omega), (by first | exact Nat.le_of_ble_eq_true rfl | (dsimp only [rmk]; omega) | omega)⟩ (rd_k ?_)
    refine r_castO (pc := 17) (ci := 6) C dX0_lay_17 (gCy (h.cy (c := c.toNat) (by omega))) (show vwC[6]? = some (RX7, TX7, 3) from rfl) q1015 ?_
    obtain ⟨s, r, k1, k2⟩ := h.cy (c := c.toNat) (by omega)
    have hwl : 0 < (wC x.d c.toNat).length ∧ (wC x.d c.toNat).length ≤ 1098 := (by rw [wC_len]; have := pC_b h.rv (c := c.toNat) (by omega); have := nR_le h.rv; omega)
    refine r_getN (pc := 20) (k := 1) (ci := 6) C dX0_lay_20 (g1 k1) (show vwC[6]? = some (RX7, TX7, 3) from rfl) in_X7 (by decide) (C.nf (h1 := "RiverWords") (by decide +kernel)) (fun _ h => h) rfl ?_
    refine r_invV (pc := 23) (ci := 9) 0 C dX0_lay_23 (xb_toString k2 (by decide)) (gB k2) (show vwC[9]? = some (RJ8, TJ8, 4) from rfl) rfl (lw_V q523 q524 q525 q91 q526) (by decide +kernel) rfl rfl ⟨Nat.le_of_ble_eq_true rfl, Nat.le_of_ble_eq_true rfl⟩ (Nat.le_of_ble_eq_true rfl) ⟨(by first | exact Nat.le_of_ble_eq_true rfl | (dsimp only [rmk]; omega) | omega), (by first | exact Nat.le_of_ble_eq_true rfl | (dsimp only [rmk]; omega) | omega)⟩ (fun v23 G23 h23 => ?_)
    obtain ⟨z, rfl, r1, r2⟩ := h23
    have h4 := h.fr r2 (by simp)
    refine r_invV (pc := 26) (ci := 0) 1 C dX0_lay_26 (xo_comes h4 r1 ⟨hwl.1, by omega⟩) (g2 h4.ob) (show vwC[0]? = some (RX0, TX0, 10) from rfl) rfl (lw_V q575 q577 qs3 q81 q578) (by decide +kernel) rfl rfl ⟨Nat.le_of_ble_eq_true rfl, Nat.le_of_ble_eq_true rfl⟩ (Nat.le_of_ble_eq_true rfl) ⟨(by first | exact Nat.le_of_ble_eq_true rfl | (dsimp only [rmk]; omega) | omega), (by first | exact Nat.le_of_ble_eq_true rfl | (dsimp only [rmk]; omega) | omega)⟩ (fun v26 G26 h26 => ?_)
    obtain ⟨rfl, ⟨rls', rm', h5'⟩, f3⟩ := h26
    refine r_goto (pc := 29) (tgt := 34) C dX0_lay_29 (by decide) ?_
    exact r_iret (pc := 34) C hQ dX0_lay_34 (by first | exact Nat.le_of_ble_eq_true rfl | (dsimp only [rmk]; omega) | omega) (by first | exact Nat.le_of_ble_eq_true rfl | (dsimp only [rmk]; omega) | omega) (fun G hG => (by cases hG; unfold sLay; first | (rw [if_neg h5]; exact ⟨rfl, h.comp, FR.rf⟩) | (rw [if_pos h5]; exact ⟨rfl, h5'.comp, (r2.nil _).tr (f3.wk (by decide))⟩)))
set_option maxHeartbeats 800000 in
theorem xo_where {la : Launch} {X : XE} {G0 : Gh} {xh : Nat} {x : AS} {A : Nat → Nat} {dr : Int} {rls : List Nat} {rm : Nat} {fls : List Nat} {fm : Nat} {cls : List Nat} {cm : Nat} (h : CW X G0 xh x A dr rls rm fls fm cls cm) (r : Int) (hr : i32 r) : MG la X yX0_where cX0_where 3 (some .int) (rmk 7 1 7 149) [.ref xh, .int (iI r)] (fun G => G = G0) (fun v G => v = some (.int (iI (sWhere x.ws x.d r))) ∧ FR [9] G0 G) := by
  refine MG.of (by decide +kernel) (Nat.le_of_ble_eq_true rfl) ?_
  intro Z C hX hL hQ
  subst hX; subst hL
  change WW Z 3 (fun G => G = G0) 0 0 0 [some (.ref xh), some (.int (iI r)), none] []
  have hd0 : x.d = 0 ∨ 5 ≤ x.d ∧ x.d ≤ 900 := by rcases h.rv with q | q; exact Or.inl q; exact Or.inr ⟨q.1, q.2.1⟩
  refine r_aload_n (pc := 0) C dX0_where_0 rfl rfl ?_
  refine r_iload_n (pc := 1) C dX0_where_1 rfl rfl ?_
  refine r_invV (pc := 2) (ci := 0) 1 C dX0_where_2 (xo_isRoad h r hr) (g2 h.ob) (show vwC[0]? = some (RX0, TX0, 10) from rfl) rfl (lw_V q665 q667 qs8 q81 q668) (by decide +kernel) rfl rfl ⟨Nat.le_of_ble_eq_true rfl, Nat.le_of_ble_eq_true rfl⟩ (Nat.le_of_ble_eq_true rfl) ⟨(by first | exact Nat.le_of_ble_eq_true rfl | (dsimp only [rmk]; omega) | omega), (by first | exact Nat.le_of_ble_eq_true rfl | (dsimp only [rmk]; omega) | omega)⟩ (rd_k ?_)
  refine r_if_neB (pc := 5) (tgt := 11) C dX0_where_5 (by decide)  (fun h5 => ?_) (fun h5 => ?_)
  · refine r_aload_n (pc := 11) C dX0_where_11 rfl rfl ?_
    refine r_get (pc := 12) (k := 6) (ci := 0) C dX0_where_12 (g1 h.ob) (show vwC[0]? = some (RX0, TX0, 10) from rfl) in_X0 (by decide) (C.t _ q281) (fun _ h => h) rfl ?_
    refine r_if_eqZ (pc := 15) (tgt := 35) C dX0_where_15 (by decide) (by unfold i32; omega) (fun h15 => ?_) (fun h15 => ?_)
    · refine r_ldcZ (pc := 35) (a := -2000000103) C dX0_where_35 rfl q522 (by decide) ?_
      exact r_iret (pc := 37) C hQ dX0_where_37 (by first | exact Nat.le_of_ble_eq_true rfl | (dsimp only [rmk]; omega) | omega) (by first | exact Nat.le_of_ble_eq_true rfl | (dsimp only [rmk]; omega) | omega) (fun G hG => (by cases hG; unfold sWhere; rw [if_pos h5]; first | (rw [if_neg (fun q => by omega)]; exact ⟨rfl, FR.rf⟩) | (rw [if_neg (fun q => by have := q.1; rw [bi_0.mp h32] at this; cases this)]; exact ⟨rfl, FR.rf⟩)))
    · refine r_aload_n (pc := 18) C dX0_where_18 rfl rfl ?_
      refine r_get (pc := 19) (k := 3) (ci := 0) C dX0_where_19 (g1 h.ob) (show vwC[0]? = some (RX0, TX0, 10) from rfl) in_X0 (by decide) (C.t _ q278) (fun _ h => h) rfl ?_
      refine r_iload_n (pc := 22) C dX0_where_22 rfl rfl ?_
      refine r_invV (pc := 23) (ci := 8) 1 C dX0_where_23 (jl_get r h.rl (h.rix h5)) (gLs h.rl) (show vwC[8]? = some (RJ6, TJ6, 3) from rfl) rfl (lw_V q670 q671 q672 q89 q673) (by decide +kernel) rfl rfl ⟨Nat.le_of_ble_eq_true rfl, Nat.le_of_ble_eq_true rfl⟩ (Nat.le_of_ble_eq_true rfl) ⟨(by first | exact Nat.le_of_ble_eq_true rfl | (dsimp only [rmk]; omega) | omega), (by first | exact Nat.le_of_ble_eq_true rfl | (dsimp only [rmk]; omega) | omega)⟩ (rd_k ?_)
      refine r_castO (pc := 26) (ci := 4) C dX0_where_26 (gRd (h.road h5)) (show vwC[4]? = some (RX4, TX4, 3) from rfl) q584 ?_
      refine r_invD (pc := 29) (ci := 4) (owner := "RiverWords$Worded") (x2 := ⟨"RiverWords$Road", "isClosed", "()Z"⟩) 0 C dX0_where_29 (xr_isClosed (h.road h5) (h.rk.at h5).2) (gRd (h.road h5)) (show vwC[4]? = some (RX4, TX4, 3) from rfl) rfl (lw_meth q749) q100 q747 (by decide +kernel) (by decide +kernel) (by decide +kernel) (by decide +kernel) (by decide +kernel) rfl rfl ⟨Nat.le_of_ble_eq_true rfl, Nat.le_of_ble_eq_true rfl⟩ (Nat.le_of_ble_eq_true rfl) ⟨(by first | exact Nat.le_of_ble_eq_true rfl | (dsimp only [rmk]; omega) | omega), (by first | exact Nat.le_of_ble_eq_true rfl | (dsimp only [rmk]; omega) | omega)⟩ (rd_k ?_)
      refine r_if_neZ (pc := 32) (tgt := 38) C dX0_where_32 (by decide) (bi_i _) (fun h32 => ?_) (fun h32 => ?_)
      · refine r_aload_n (pc := 38) C dX0_where_38 rfl rfl ?_
        refine r_get (pc := 39) (k := 3) (ci := 0) C dX0_where_39 (g1 h.ob) (show vwC[0]? = some (RX0, TX0, 10) from rfl) in_X0 (by decide) (C.t _ q278) (fun _ h => h) rfl ?_
        refine r_iload_n (pc := 42) C dX0_where_42 rfl rfl ?_
        refine r_invV (pc := 43) (ci := 8) 1 C dX0_where_43 (jl_get r h.rl (h.rix h5)) (gLs h.rl) (show vwC[8]? = some (RJ6, TJ6, 3) from rfl) rfl (lw_V q670 q671 q672 q89 q673) (by decide +kernel) rfl rfl ⟨Nat.le_of_ble_eq_true rfl, Nat.le_of_ble_eq_true rfl⟩ (Nat.le_of_ble_eq_true rfl) ⟨(by first | exact Nat.le_of_ble_eq_true rfl | (dsimp only [rmk]; omega) | omega), (by first | exact Nat.le_of_ble_eq_true rfl | (dsimp only [rmk]; omega) | omega)⟩ (rd_k ?_)
        refine r_castO (pc := 46) (ci := 4) C dX0_where_46 (gRd (h.road h5)) (show vwC[4]? = some (RX4, TX4, 3) from rfl) q584 ?_
        obtain ⟨s, tb, k1, k2, k3⟩ := h.road h5
        refine r_getN (pc := 49) (k := 1) (ci := 4) C dX0_where_49 (g1 k1) (show vwC[4]? = some (RX4, TX4, 3) from rfl) in_X4 (by decide) (C.nf (h1 := "RiverWords") (by decide +kernel)) (fun _ h => h) rfl ?_
        refine r_invS (pc := 52) 1 C dX0_where_52 (xo_formOf k3 (h.rk.at h5).2 (bi_n0 h32)) rfl (lw_S q797 q798 q81 q799) (by decide +kernel) rfl rfl ⟨Nat.le_of_ble_eq_true rfl, Nat.le_of_ble_eq_true rfl⟩ (Nat.le_of_ble_eq_true rfl) ⟨(by first | exact Nat.le_of_ble_eq_true rfl | (dsimp only [rmk]; omega) | omega), (by first | exact Nat.le_of_ble_eq_true rfl | (dsimp only [rmk]; omega) | omega)⟩ (fun v52 G52 h52 => ?_)
        obtain ⟨e, rfl, q1, q2⟩ := h52
        have h2 := h.fr q2 (by simp)
        refine r_astore_n (pc := 55) C dX0_where_55 rfl (by decide) ?_
        refine r_aload_n (pc := 56) C dX0_where_56 rfl rfl ?_
        refine r_aload_n (pc := 57) C dX0_where_57 rfl rfl ?_
        refine r_getN (pc := 58) (k := 0) (ci := 5) C dX0_where_58 (g1 q1) (show vwC[5]? = some (RX6, TX6, 7) from rfl) in_X6 (by decide) (C.nf (h1 := "RiverWords") (by decide +kernel)) (fun _ h => h) rfl ?_
        refine r_aload_n (pc := 61) C dX0_where_61 rfl rfl ?_
        refine r_getN (pc := 62) (k := 1) (ci := 5) C dX0_where_62 (g1 q1) (show vwC[5]? = some (RX6, TX6, 7) from rfl) in_X6 (by decide) (C.nf (h1 := "RiverWords") (by decide +kernel)) (fun _ h => h) rfl ?_
        refine r_aload_n (pc := 65) C dX0_where_65 rfl rfl ?_
        refine r_getN (pc := 66) (k := 2) (ci := 5) C dX0_where_66 (g1 q1) (show vwC[5]? = some (RX6, TX6, 7) from rfl) in_X6 (by decide) (C.nf (h1 := "RiverWords") (by decide +kernel)) (fun _ h => h) rfl ?_
        refine r_invV (pc := 69) (ci := 0) 3 C dX0_where_69 (xo_numberOf (wFa (wsat x.ws r)) (wFb (wsat x.ws r)) (wFc (wsat x.ws r)) h2.xo h2.fll h2.fs (fun f hf => fl_FB h.rv hf) (fl_len h.rv) (wF_i (h.rk.at h5).2 (bi_n0 h32))) (g2 h2.ob) (show vwC[0]? = some (RX0, TX0, 10) from rfl) rfl (lw_V q1007 q1009 qs13 q81 q1010) (by decide +kernel) rfl rfl ⟨Nat.le_of_ble_eq_true rfl, Nat.le_of_ble_eq_true rfl⟩ (Nat.le_of_ble_eq_true rfl) ⟨(by first | exact Nat.le_of_ble_eq_true rfl | (dsimp only [rmk]; omega) | omega), (by first | exact Nat.le_of_ble_eq_true rfl | (dsimp only [rmk]; omega) | omega)⟩ (rd_k ?_)
        exact r_iret (pc := 72) C hQ dX0_where_72 (by first | exact Nat.le_of_ble_eq_true rfl | (dsimp only [rmk]; omega) | omega) (by first | exact Nat.le_of_ble_eq_true rfl | (dsimp only [rmk]; omega) | omega) (fun G hG => (by cases hG; unfold sWhere; rw [if_pos h5, if_pos ⟨bi_n0 h32, by omega⟩]; exact ⟨rfl, q2.nil _⟩))
      · refine r_ldcZ (pc := 35) (a := -2000000103) C dX0_where_35 rfl q522 (by decide) ?_
        exact r_iret (pc := 37) C hQ dX0_where_37 (by first | exact Nat.le_of_ble_eq_true rfl | (dsimp only [rmk]; omega) | omega) (by first | exact Nat.le_of_ble_eq_true rfl | (dsimp only [rmk]; omega) | omega) (fun G hG => (by cases hG; unfold sWhere; rw [if_pos h5]; first | (rw [if_neg (fun q => by omega)]; exact ⟨rfl, FR.rf⟩) | (rw [if_neg (fun q => by have := q.1; rw [bi_0.mp h32] at this; cases this)]; exact ⟨rfl, FR.rf⟩)))
  · refine r_ldcZ (pc := 8) (a := -2000000101) C dX0_where_8 rfl q669 (by decide) ?_
    exact r_iret (pc := 10) C hQ dX0_where_10 (by first | exact Nat.le_of_ble_eq_true rfl | (dsimp only [rmk]; omega) | omega) (by first | exact Nat.le_of_ble_eq_true rfl | (dsimp only [rmk]; omega) | omega) (fun G hG => (by cases hG; unfold sWhere; rw [if_neg h5]; exact ⟨rfl, FR.rf⟩))
set_option maxHeartbeats 800000 in
theorem xo_flowTold {la : Launch} {X : XE} {G0 : Gh} {xh : Nat} {x : AS} {A : Nat → Nat} {dr : Int} {rls : List Nat} {rm : Nat} {fls : List Nat} {fm : Nat} {cls : List Nat} {cm : Nat} (h : CW X G0 xh x A dr rls rm fls fm cls cm) {e t : Nat} {f : Fm} {c n b m : Int} (told : Bool) (hf : FRM G0 e t f c n b m) (hd : 0 < x.d) (hs : ¬ isSq x.d) (hI : FlI x.d f) : MG la X yX0_flowTold cX0_flowTold 5 (some .int) (rmk 4 2001 14007 88) [.ref xh, .ref e, .int (iI (bi told))] (fun G => G = G0) (fun v G => v = some (.int (iI (if told then ((flR f).1 : Int) else nof (fl x.d) (flUp (flR f).2)))) ∧ FR [] G0 G) := by
  refine MG.of (by decide +kernel) (Nat.le_of_ble_eq_true rfl) ?_
  intro Z C hX hL hQ
  subst hX; subst hL
  change WW Z 5 (fun G => G = G0) 0 0 0 [some (.ref xh), some (.ref e), some (.int (iI (bi told))), none, none] []
  have hmu : ∀ g : Fm, FlI x.d g → flMu g ≤ 1998 := by
    intro g gI
    obtain ⟨-, i1, i2, i3⟩ := gI
    unfold flMu
    omega
  have last : ∀ (k : Nat) (g : Fm) (e' t' : Nat) (c' n' b' m' : Int) (v3 : Option Value), k ≤ 1999 → ¬ (0 < g.1 ↔ 0 < g.2.2) → FlI x.d g → ((flR f).1 = k + (flR g).1 ∧ (flR f).2 = (flR g).2) → WW Z 5 (fun G => FRM G e' t' g c' n' b' m' ∧ FR [] G0 G) k (7 * k) 5 [some (.ref xh), some (.ref e), some (.int (iI (bi told))), some (.ref e'), some (.int (iI (k : Int)))] [] := by
    intro k g e' t' c' n' b' m' v3 hk hn gI gg
    refine ww_all (fun G1 hG1 => ?_)
    obtain ⟨F1, f1⟩ := hG1
    have hne := gI.ne hs
    have he := flR_eq hd hs gI
    obtain ⟨-, i1, i2, i3⟩ := id gI
    rw [if_neg hn] at he
    rw [he] at gg
    replace gg : (flR f).1 = k ∧ (flR f).2 = g := gg
    refine r_aload_n (pc := 5) C dX0_flowTold_5 rfl rfl ?_
    refine r_invV (pc := 6) (ci := 5) 0 C dX0_flowTold_6 (xm_aside F1 (by unfold i32; omega) (by unfold i32; omega)) (g2 F1) (show vwC[5]? = some (RX6, TX6, 7) from rfl) rfl (lw_V q1087 q1088 q1089 q101 q1090) (by decide +kernel) rfl rfl ⟨Nat.le_of_ble_eq_true rfl, Nat.le_of_ble_eq_true rfl⟩ (Nat.le_of_ble_eq_true rfl) ⟨(by first | exact Nat.le_of_ble_eq_true rfl | (dsimp only [rmk]; omega) | omega), (by first | exact Nat.le_of_ble_eq_true rfl | (dsimp only [rmk]; omega) | omega)⟩ (rd_k ?_)
    rw [b2_f hn]
    refine r_if_eqZ (pc := 9) (tgt := 23) C dX0_flowTold_9 (by decide) (by unfold i32; omega) (fun h9 => ?_) (fun h9 => absurd h9 (by omega))
    refine r_aload_n (pc := 23) C dX0_flowTold_23 rfl rfl ?_
    refine r_invV (pc := 24) (ci := 5) 0 C dX0_flowTold_24 (xm_upright F1 (by unfold i32; omega) hne.1) (g2 F1) (show vwC[5]? = some (RX6, TX6, 7) from rfl) rfl (lw_V q1098 q1099 q1100 q101 q1101) (by decide +kernel) rfl rfl ⟨Nat.le_of_ble_eq_true rfl, Nat.le_of_ble_eq_true rfl⟩ (Nat.le_of_ble_eq_true rfl) ⟨by dsimp only [rmk]; omega, by dsimp only [rmk]; omega⟩ (fun v24 G24 h24 => ?_)
    obtain ⟨u, t2, c2, n2, b2', m2, rfl, F2, f2⟩ := h24
    have h2 := (h.fr f1 (by simp)).fr f2 (by simp)
    have hup : i32 (flUp g).1 ∧ i32 (flUp g).2.1 ∧ i32 (flUp g).2.2 := (by unfold flUp; split <;> (refine ⟨?_, ?_, ?_⟩ <;> unfold i32 <;> first | omega | (dsimp only; omega)))
    refine r_astore_n (pc := 27) C dX0_flowTold_27 rfl (by decide) ?_
    refine r_iload_n (pc := 28) C dX0_flowTold_28 rfl rfl ?_
    refine r_if_eqZ (pc := 29) (tgt := 37) C dX0_flowTold_29 (by decide) (bi_i _) (fun h29 => ?_) (fun h29 => ?_)
    · refine r_aload_n (pc := 37) C dX0_flowTold_37 rfl rfl ?_
      refine r_aload_n (pc := 38) C dX0_flowTold_38 rfl rfl ?_
      refine r_getN (pc := 39) (k := 0) (ci := 5) C dX0_flowTold_39 (g1 F2) (show vwC[5]? = some (RX6, TX6, 7) from rfl) in_X6 (by decide) (C.nf (h1 := "RiverWords") (by decide +kernel)) (fun _ h => h) rfl ?_
      refine r_aload_n (pc := 42) C dX0_flowTold_42 rfl rfl ?_
      refine r_getN (pc := 43) (k := 1) (ci := 5) C dX0_flowTold_43 (g1 F2) (show vwC[5]? = some (RX6, TX6, 7) from rfl) in_X6 (by decide) (C.nf (h1 := "RiverWords") (by decide +kernel)) (fun _ h => h) rfl ?_
      refine r_aload_n (pc := 46) C dX0_flowTold_46 rfl rfl ?_
      refine r_getN (pc := 47) (k := 2) (ci := 5) C dX0_flowTold_47 (g1 F2) (show vwC[5]? = some (RX6, TX6, 7) from rfl) in_X6 (by decide) (C.nf (h1 := "RiverWords") (by decide +kernel)) (fun _ h => h) rfl ?_
      refine r_invV (pc := 50) (ci := 0) 3 C dX0_flowTold_50 (xo_numberOf (flUp g).1 (flUp g).2.1 (flUp g).2.2 h2.xo h2.fll h2.fs (fun f hf => fl_FB h.rv hf) (fl_len h.rv) hup) (g2 h2.ob) (show vwC[0]? = some (RX0, TX0, 10) from rfl) rfl (lw_V q1007 q1009 qs13 q81 q1010) (by decide +kernel) rfl rfl ⟨Nat.le_of_ble_eq_true rfl, Nat.le_of_ble_eq_true rfl⟩ (Nat.le_of_ble_eq_true rfl) ⟨by dsimp only [rmk]; omega, by dsimp only [rmk]; omega⟩ (rd_k ?_)
      exact r_iret (pc := 53) C hQ dX0_flowTold_53 (by dsimp only [rmk]; omega) (by dsimp only [rmk]; omega) (fun G hG => (by cases hG; refine ⟨?_, f1.tr f2⟩; first | (rw [bi_n0 h29, if_pos rfl, gg.1]; done) | (rw [bi_0.mp h29, if_neg (by decide), gg.2]; done)))
    · refine r_iload (pc := 32) C dX0_flowTold_32 rfl ?_
      refine r_goto (pc := 34) (tgt := 53) C dX0_flowTold_34 (by decide) ?_
      exact r_iret (pc := 53) C hQ dX0_flowTold_53 (by dsimp only [rmk]; omega) (by dsimp only [rmk]; omega) (fun G hG => (by cases hG; refine ⟨?_, f1.tr f2⟩; first | (rw [bi_n0 h29, if_pos rfl, gg.1]; done) | (rw [bi_0.mp h29, if_neg (by decide), gg.2]; done)))
  have loop : ∀ (mm k : Nat) (g : Fm) (e' t' : Nat) (c' n' b' m' : Int), flMu g < mm → k + flMu g ≤ 1998 → FlI x.d g → ((flR f).1 = k + (flR g).1 ∧ (flR f).2 = (flR g).2) → WW Z 5 (fun G => FRM G e' t' g c' n' b' m' ∧ FR [] G0 G) k (7 * k) 5 [some (.ref xh), some (.ref e), some (.int (iI (bi told))), some (.ref e'), some (.int (iI (k : Int)))] [] := by
    intro mm
    induction mm with
    | zero => intro k g e' t' c' n' b' m' h0; omega
    | succ mm ih =>
      intro k g e' t' c' n' b' m' hmm hkb gI gg
      by_cases ha : (0 < g.1 ↔ 0 < g.2.2)
      · refine ww_all (fun G1 hG1 => ?_)
        obtain ⟨F1, f1⟩ := hG1
        have he := flR_eq hd hs gI
        obtain ⟨-, i1, i2, i3⟩ := id gI
        rw [if_pos ha] at he
        rw [he] at gg
        obtain ⟨n1, n2⟩ := flS_I hd hs gI ha
        refine r_aload_n (pc := 5) C dX0_flowTold_5 rfl rfl ?_
        refine r_invV (pc := 6) (ci := 5) 0 C dX0_flowTold_6 (xm_aside F1 (by unfold i32; omega) (by unfold i32; omega)) (g2 F1) (show vwC[5]? = some (RX6, TX6, 7) from rfl) rfl (lw_V q1087 q1088 q1089 q101 q1090) (by decide +kernel) rfl rfl ⟨Nat.le_of_ble_eq_true rfl, Nat.le_of_ble_eq_true rfl⟩ (Nat.le_of_ble_eq_true rfl) ⟨(by first | exact Nat.le_of_ble_eq_true rfl | (dsimp only [rmk]; omega) | omega), (by first | exact Nat.le_of_ble_eq_true rfl | (dsimp only [rmk]; omega) | omega)⟩ (rd_k ?_)
        rw [b2_t ha]
        refine r_if_eqZ (pc := 9) (tgt := 23) C dX0_flowTold_9 (by decide) (by unfold i32; omega) (fun h9 => absurd h9 (by omega)) (fun h9 => ?_)
        refine r_aload_n (pc := 12) C dX0_flowTold_12 rfl rfl ?_
        refine r_invV (pc := 13) (ci := 5) 0 C dX0_flowTold_13 (xm_nearer x.d F1 gI) (g2 F1) (show vwC[5]? = some (RX6, TX6, 7) from rfl) rfl (lw_V q1091 q1092 q1093 q101 q1094) (by decide +kernel) rfl rfl ⟨Nat.le_of_ble_eq_true rfl, Nat.le_of_ble_eq_true rfl⟩ (Nat.le_of_ble_eq_true rfl) ⟨by dsimp only [rmk]; omega, by dsimp only [rmk]; omega⟩ (fun v13 G13 h13 => ?_)
        obtain ⟨u, rfl, F2, f2⟩ := h13
        refine r_astore_n (pc := 16) C dX0_flowTold_16 rfl (by decide) ?_
        refine r_iincZ (pc := 17) C dX0_flowTold_17 rfl (by decide) ?_
        refine r_goto (pc := 20) (tgt := 5) C dX0_flowTold_20 (by decide) ?_
        refine ww_wide (n' := k + 1) (s' := 7 * (k + 1)) (by dsimp only [rmk]; omega) (by dsimp only [rmk]; omega) ?_
        by_cases hb : (0 < (flS g).1 ↔ 0 < (flS g).2.2)
        · exact ww_to (fun G hG => by rw [hG]; exact ⟨F2, f1.tr f2⟩) (ih (k + 1) (flS g) u 9 NON 0 0 0 (by have := n2 hb; omega) (by have := n2 hb; omega) n1 ⟨by rw [gg.1]; omega, gg.2⟩)
        · exact ww_to (fun G hG => by rw [hG]; exact ⟨F2, f1.tr f2⟩) (last (k + 1) (flS g) u 9 NON 0 0 0 none (by omega) hb n1 ⟨by rw [gg.1]; omega, gg.2⟩)
      · exact last k g e' t' c' n' b' m' none (by omega) ha gI gg
  refine r_aload_n (pc := 0) C dX0_flowTold_0 rfl rfl ?_
  refine r_astore_n (pc := 1) C dX0_flowTold_1 rfl (by decide) ?_
  refine r_iconstZ (pc := 2) C dX0_flowTold_2 ?_
  refine r_istore (pc := 3) C dX0_flowTold_3 (by decide) ?_
  exact ww_to (fun G hG => by rw [hG]; exact ⟨hf, FR.rf⟩) (loop (flMu f + 1) 0 f e t c n b m (by omega) (by have := hmu f hI; omega) hI ⟨by omega, rfl⟩)
set_option maxHeartbeats 800000 in
theorem xo_flow {la : Launch} {X : XE} {G0 : Gh} {xh : Nat} {x : AS} {A : Nat → Nat} {dr : Int} {rls : List Nat} {rm : Nat} {fls : List Nat} {fm : Nat} {cls : List Nat} {cm : Nat} (h : CW X G0 xh x A dr rls rm fls fm cls cm) (a b c : Int) (told : Bool) (ha : i32 a) (hb : i32 b) (hc : i32 c) : MG la X yX0_flow cX0_flow 6 (some .int) (rmk 5 2002 14014 112) [.ref xh, .int (iI a), .int (iI b), .int (iI c), .int (iI (bi told))] (fun G => G = G0) (fun v G => v = some (.int (iI (sFlow x.d a b c told))) ∧ FR [9] G0 G) := by
  refine MG.of (by decide +kernel) (Nat.le_of_ble_eq_true rfl) ?_
  intro Z C hX hL hQ
  subst hX; subst hL
  change WW Z 6 (fun G => G = G0) 0 0 0 [some (.ref xh), some (.int (iI a)), some (.int (iI b)), some (.int (iI c)), some (.int (iI (bi told))), none] []
  have hd0 : x.d = 0 ∨ (5 ≤ x.d ∧ x.d ≤ 900 ∧ ¬ isSq x.d) := h.rv
  have mk : 0 < x.d → (-999 ≤ a ∧ a ≤ 999) → (-999 ≤ b ∧ b ≤ 999) → (-999 ≤ c ∧ c ≤ 999) → WW Z 6 (fun G => G = G0) 0 0 52 [some (.ref xh), some (.int (iI a)), some (.int (iI b)), some (.int (iI c)), some (.int (iI (bi told))), none] [] := by
    intro h4 hia hib hic
    have hsq : ¬ isSq x.d := by rcases hd0 with q | q; omega; exact q.2.2
    have hbb : -998001 ≤ b * b ∧ b * b ≤ 998001 := by
      have h1 : (b * b).natAbs ≤ 999 * 999 := by rw [Int.natAbs_mul]; exact Nat.mul_le_mul (by omega) (by omega)
      omega
    have hac : -998001 ≤ a * c ∧ a * c ≤ 998001 := by
      have h1 : (a * c).natAbs ≤ 999 * 999 := by rw [Int.natAbs_mul]; exact Nat.mul_le_mul (by omega) (by omega)
      omega
    have h4ac : 4 * a * c = 4 * (a * c) := Int.mul_assoc 4 a c
    have hgb : ((Int.gcd a b : Nat) : Int) ≤ 999 := by
      by_cases e : a = 0
      · subst e; rw [Int.gcd_zero_left]; omega
      · have := igcd_le (a := a) (b := b) e; omega
    have hg2 : ((Int.gcd (Int.gcd a b : Nat) c : Nat) : Int) ≤ 999 := by
      by_cases e : ((Int.gcd a b : Nat) : Int) = 0
      · rw [e, Int.gcd_zero_left]; omega
      · have := igcd_le (a := ((Int.gcd a b : Nat) : Int)) (b := c) e; omega
    refine r_newE (pc := 52) (ci := 5) (fs := [.int (iI 0), .int (iI 0), .int (iI 0), .int (iI 0), .int (iI 0), .int (iI 0), .int (iI 0)]) 9 C dX0_flow_52 (show vwC[5]? = some (RX6, TX6, 7) from rfl) in_X6 tyX6 tyX6_ok q810 q811 q101 (by decide +kernel) (by first | exact Nat.le_of_ble_eq_true rfl | (dsimp only [rmk]; omega) | omega) (by first | exact Nat.le_of_ble_eq_true rfl | (dsimp only [rmk]; omega) | omega) (fun a52 n52 => ?_)
    refine r_dup (pc := 55) C dX0_flow_55 rfl ?_
    refine r_iload_n (pc := 56) C dX0_flow_56 rfl rfl ?_
    refine r_iload_n (pc := 57) C dX0_flow_57 rfl rfl ?_
    refine r_iload_n (pc := 58) C dX0_flow_58 rfl rfl ?_
    refine r_invI (pc := 59) 3 C dX0_flow_59 (xm_init a b c (gup_eq _ _ _) (by decide)) rfl (lw_meth q814) q101 q812 q813 rfl (by decide +kernel) rfl rfl ⟨Nat.le_of_ble_eq_true rfl, Nat.le_of_ble_eq_true rfl⟩ (Nat.le_of_ble_eq_true rfl) ⟨(by first | exact Nat.le_of_ble_eq_true rfl | (dsimp only [rmk]; omega) | omega), (by first | exact Nat.le_of_ble_eq_true rfl | (dsimp only [rmk]; omega) | omega)⟩ (fun v59 G59 h59 => ?_)
    obtain ⟨rfl, q1⟩ := h59
    have f1 := FR.made n52 q1
    have h2 := h.fr f1 (by simp)
    have F1 : FRM G59 a52 9 (a, b, c) NON 0 0 0 := q1.1
    refine r_astore (pc := 62) C dX0_flow_62 (by decide) ?_
    refine r_aload (pc := 64) C dX0_flow_64 rfl ?_
    refine r_invV (pc := 66) (ci := 5) 0 C dX0_flow_66 (xm_disc F1) (g2 F1) (show vwC[5]? = some (RX6, TX6, 7) from rfl) rfl (lw_V q845 q846 q847 q101 q848) (by decide +kernel) rfl rfl ⟨Nat.le_of_ble_eq_true rfl, Nat.le_of_ble_eq_true rfl⟩ (Nat.le_of_ble_eq_true rfl) ⟨(by first | exact Nat.le_of_ble_eq_true rfl | (dsimp only [rmk]; omega) | omega), (by first | exact Nat.le_of_ble_eq_true rfl | (dsimp only [rmk]; omega) | omega)⟩ (rd_k ?_)
    refine r_aload_n (pc := 69) C dX0_flow_69 rfl rfl ?_
    refine r_get (pc := 70) (k := 6) (ci := 0) C dX0_flow_70 (g1 h2.ob) (show vwC[0]? = some (RX0, TX0, 10) from rfl) in_X0 (by decide) (C.t _ q281) (fun _ h => h) rfl ?_
    refine r_icmp_neZ (pc := 73) (tgt := 95) C dX0_flow_73 (by decide) (by unfold i32; first | omega | (dsimp only; omega)) (by rcases hd0 with q | q; rw [q]; exact i32_0; unfold i32; omega) (fun h73 => ?_) (fun h73 => ?_)
    · refine r_ldcZ (pc := 95) (a := -2000000102) C dX0_flow_95 rfl q314 (by decide) ?_
      exact r_iret (pc := 97) C hQ dX0_flow_97 (by first | exact Nat.le_of_ble_eq_true rfl | (dsimp only [rmk]; omega) | omega) (by first | exact Nat.le_of_ble_eq_true rfl | (dsimp only [rmk]; omega) | omega) (fun G hG => (by cases hG; first | (rw [sFlow_yes h4 ⟨⟨hia, hib, hic⟩, h73, h81⟩]; exact ⟨rfl, (f1.tr f2).nil _⟩) | (unfold sFlow; rw [if_pos h4]; first | (rw [if_neg (fun q => h73 q.2.1)]; exact ⟨rfl, f1.nil _⟩) | (rw [if_neg (fun q => h81 q.2.2)]; exact ⟨rfl, f1.nil _⟩))))
    · refine r_aload (pc := 76) C dX0_flow_76 rfl ?_
      refine r_invV (pc := 78) (ci := 5) 0 C dX0_flow_78 (xm_isWhole F1 (by unfold i32; first | omega | (dsimp only; omega)) (by unfold i32; first | omega | (dsimp only; omega)) (by unfold i32; first | omega | (dsimp only; omega)) (by unfold igcd i32; first | omega | (dsimp only; omega)) (by unfold igcd i32; first | omega | (dsimp only; omega))) (g2 F1) (show vwC[5]? = some (RX6, TX6, 7) from rfl) rfl (lw_V q1078 q1079 q1080 q101 q1081) (by decide +kernel) rfl rfl ⟨Nat.le_of_ble_eq_true rfl, Nat.le_of_ble_eq_true rfl⟩ (Nat.le_of_ble_eq_true rfl) ⟨(by first | exact Nat.le_of_ble_eq_true rfl | (dsimp only [rmk]; omega) | omega), (by first | exact Nat.le_of_ble_eq_true rfl | (dsimp only [rmk]; omega) | omega)⟩ (rd_k ?_)
      refine r_if_eqB (pc := 81) (tgt := 95) C dX0_flow_81 (by decide)  (fun h81 => ?_) (fun h81 => ?_)
      · refine r_ldcZ (pc := 95) (a := -2000000102) C dX0_flow_95 rfl q314 (by decide) ?_
        exact r_iret (pc := 97) C hQ dX0_flow_97 (by first | exact Nat.le_of_ble_eq_true rfl | (dsimp only [rmk]; omega) | omega) (by first | exact Nat.le_of_ble_eq_true rfl | (dsimp only [rmk]; omega) | omega) (fun G hG => (by cases hG; first | (rw [sFlow_yes h4 ⟨⟨hia, hib, hic⟩, h73, h81⟩]; exact ⟨rfl, (f1.tr f2).nil _⟩) | (unfold sFlow; rw [if_pos h4]; first | (rw [if_neg (fun q => h73 q.2.1)]; exact ⟨rfl, f1.nil _⟩) | (rw [if_neg (fun q => h81 q.2.2)]; exact ⟨rfl, f1.nil _⟩))))
      · refine r_aload_n (pc := 84) C dX0_flow_84 rfl rfl ?_
        refine r_aload (pc := 85) C dX0_flow_85 rfl ?_
        refine r_iload (pc := 87) C dX0_flow_87 rfl ?_
        refine r_invV (pc := 89) (ci := 0) 2 C dX0_flow_89 (xo_flowTold h2 told F1 h4 hsq ⟨h73, hia, hib, hic⟩) (g2 h2.ob) (show vwC[0]? = some (RX0, TX0, 10) from rfl) rfl (lw_V q1083 q1085 qs18 q81 q1086) (by decide +kernel) rfl rfl ⟨Nat.le_of_ble_eq_true rfl, Nat.le_of_ble_eq_true rfl⟩ (Nat.le_of_ble_eq_true rfl) ⟨(by first | exact Nat.le_of_ble_eq_true rfl | (dsimp only [rmk]; omega) | omega), (by first | exact Nat.le_of_ble_eq_true rfl | (dsimp only [rmk]; omega) | omega)⟩ (fun v89 G89 h89 => ?_)
        obtain ⟨rfl, f2⟩ := h89
        refine r_goto (pc := 92) (tgt := 97) C dX0_flow_92 (by decide) ?_
        exact r_iret (pc := 97) C hQ dX0_flow_97 (by first | exact Nat.le_of_ble_eq_true rfl | (dsimp only [rmk]; omega) | omega) (by first | exact Nat.le_of_ble_eq_true rfl | (dsimp only [rmk]; omega) | omega) (fun G hG => (by cases hG; first | (rw [sFlow_yes h4 ⟨⟨hia, hib, hic⟩, h73, h81⟩]; exact ⟨rfl, (f1.tr f2).nil _⟩) | (unfold sFlow; rw [if_pos h4]; first | (rw [if_neg (fun q => h73 q.2.1)]; exact ⟨rfl, f1.nil _⟩) | (rw [if_neg (fun q => h81 q.2.2)]; exact ⟨rfl, f1.nil _⟩))))
  refine r_aload_n (pc := 0) C dX0_flow_0 rfl rfl ?_
  refine r_get (pc := 1) (k := 6) (ci := 0) C dX0_flow_1 (g1 h.ob) (show vwC[0]? = some (RX0, TX0, 10) from rfl) in_X0 (by decide) (C.t _ q281) (fun _ h => h) rfl ?_
  refine r_if_neZ (pc := 4) (tgt := 10) C dX0_flow_4 (by decide) (by rcases hd0 with q | q; rw [q]; exact i32_0; unfold i32; omega) (fun h4 => ?_) (fun h4 => ?_)
  · refine r_iload_n (pc := 10) C dX0_flow_10 rfl rfl ?_
    refine r_sipushZ (pc := 11) C dX0_flow_11 (by decide) ?_
    refine r_sipushZ (pc := 14) C dX0_flow_14 (by decide) ?_
    refine r_invP (pc := 17) 3 C dX0_flow_17 (xf_in a (-999) 999 ha (by unfold i32; omega) (by unfold i32; omega)) rfl (lw_S q311 q312 q81 q313) (by decide +kernel) rfl rfl ⟨Nat.le_of_ble_eq_true rfl, Nat.le_of_ble_eq_true rfl⟩ (Nat.le_of_ble_eq_true rfl) ⟨(by first | exact Nat.le_of_ble_eq_true rfl | (dsimp only [rmk]; omega) | omega), (by first | exact Nat.le_of_ble_eq_true rfl | (dsimp only [rmk]; omega) | omega)⟩ ?_
    refine r_if_eqB (pc := 20) (tgt := 49) C dX0_flow_20 (by decide)  (fun h20 => ?_) (fun h20 => ?_)
    · refine r_ldcZ (pc := 49) (a := -2000000102) C dX0_flow_49 rfl q314 (by decide) ?_
      exact r_iret (pc := 51) C hQ dX0_flow_51 (by first | exact Nat.le_of_ble_eq_true rfl | (dsimp only [rmk]; omega) | omega) (by first | exact Nat.le_of_ble_eq_true rfl | (dsimp only [rmk]; omega) | omega) (fun G hG => (by cases hG; unfold sFlow; rw [if_pos (by omega), if_neg (fun q => by first | exact h20 q.1.1 | exact h33 q.1.2.1 | exact h46 q.1.2.2)]; exact ⟨rfl, FR.rf⟩))
    · refine r_iload_n (pc := 23) C dX0_flow_23 rfl rfl ?_
      refine r_sipushZ (pc := 24) C dX0_flow_24 (by decide) ?_
      refine r_sipushZ (pc := 27) C dX0_flow_27 (by decide) ?_
      refine r_invP (pc := 30) 3 C dX0_flow_30 (xf_in b (-999) 999 hb (by unfold i32; omega) (by unfold i32; omega)) rfl (lw_S q311 q312 q81 q313) (by decide +kernel) rfl rfl ⟨Nat.le_of_ble_eq_true rfl, Nat.le_of_ble_eq_true rfl⟩ (Nat.le_of_ble_eq_true rfl) ⟨(by first | exact Nat.le_of_ble_eq_true rfl | (dsimp only [rmk]; omega) | omega), (by first | exact Nat.le_of_ble_eq_true rfl | (dsimp only [rmk]; omega) | omega)⟩ ?_
      refine r_if_eqB (pc := 33) (tgt := 49) C dX0_flow_33 (by decide)  (fun h33 => ?_) (fun h33 => ?_)
      · refine r_ldcZ (pc := 49) (a := -2000000102) C dX0_flow_49 rfl q314 (by decide) ?_
        exact r_iret (pc := 51) C hQ dX0_flow_51 (by first | exact Nat.le_of_ble_eq_true rfl | (dsimp only [rmk]; omega) | omega) (by first | exact Nat.le_of_ble_eq_true rfl | (dsimp only [rmk]; omega) | omega) (fun G hG => (by cases hG; unfold sFlow; rw [if_pos (by omega), if_neg (fun q => by first | exact h20 q.1.1 | exact h33 q.1.2.1 | exact h46 q.1.2.2)]; exact ⟨rfl, FR.rf⟩))
      · refine r_iload_n (pc := 36) C dX0_flow_36 rfl rfl ?_
        refine r_sipushZ (pc := 37) C dX0_flow_37 (by decide) ?_
        refine r_sipushZ (pc := 40) C dX0_flow_40 (by decide) ?_
        refine r_invP (pc := 43) 3 C dX0_flow_43 (xf_in c (-999) 999 hc (by unfold i32; omega) (by unfold i32; omega)) rfl (lw_S q311 q312 q81 q313) (by decide +kernel) rfl rfl ⟨Nat.le_of_ble_eq_true rfl, Nat.le_of_ble_eq_true rfl⟩ (Nat.le_of_ble_eq_true rfl) ⟨(by first | exact Nat.le_of_ble_eq_true rfl | (dsimp only [rmk]; omega) | omega), (by first | exact Nat.le_of_ble_eq_true rfl | (dsimp only [rmk]; omega) | omega)⟩ ?_
        refine r_if_neB (pc := 46) (tgt := 52) C dX0_flow_46 (by decide)  (fun h46 => ?_) (fun h46 => ?_)
        · exact mk (by omega) h20 h33 h46
        · refine r_ldcZ (pc := 49) (a := -2000000102) C dX0_flow_49 rfl q314 (by decide) ?_
          exact r_iret (pc := 51) C hQ dX0_flow_51 (by first | exact Nat.le_of_ble_eq_true rfl | (dsimp only [rmk]; omega) | omega) (by first | exact Nat.le_of_ble_eq_true rfl | (dsimp only [rmk]; omega) | omega) (fun G hG => (by cases hG; unfold sFlow; rw [if_pos (by omega), if_neg (fun q => by first | exact h20 q.1.1 | exact h33 q.1.2.1 | exact h46 q.1.2.2)]; exact ⟨rfl, FR.rf⟩))
  · refine r_ldcZ (pc := 7) (a := -2000000103) C dX0_flow_7 rfl q522 (by decide) ?_
    exact r_iret (pc := 9) C hQ dX0_flow_9 (by first | exact Nat.le_of_ble_eq_true rfl | (dsimp only [rmk]; omega) | omega) (by first | exact Nat.le_of_ble_eq_true rfl | (dsimp only [rmk]; omega) | omega) (fun G hG => (by cases hG; unfold sFlow; rw [if_neg (by omega)]; exact ⟨rfl, FR.rf⟩))

