/-! the component: the page; roads come, become others, go -/
set_option maxRecDepth 100000
set_option maxHeartbeats 800000 in
theorem xo_letter {la : Launch} {X : XE} {G0 : Gh} {xh : Nat} {x : AS} {A : Nat → Nat} {dr : Int} {rls : List Nat} {rm : Nat} {fls : List Nat} {fm : Nat} {cls : List Nat} {cm : Nat} (h : CW X G0 xh x A dr rls rm fls fm cls cm) (c : Int) (hc : i32 c) : MG la X yX0_letter cX0_letter 2 (some .int) (rmk 3 0 0 64) [.ref xh, .int (iI c)] (fun G => G = G0) (fun v G => v = some (.int (iI (sLetter x.pg c).1)) ∧ CW X G xh (setpg x (sLetter x.pg c).2) A dr rls rm fls fm cls cm ∧ FR [4] G0 G) := by
  refine MG.of (by decide +kernel) (Nat.le_of_ble_eq_true rfl) ?_
  intro Z C hX hL hQ
  subst hX; subst hL
  change WW Z 2 (fun G => G = G0) 0 0 0 [some (.ref xh), some (.int (iI c))] []
  have hpl := h.pg.2.1
  refine r_iload_n (pc := 0) C dX0_letter_0 rfl rfl ?_
  refine r_bipushZ (pc := 1) C dX0_letter_1 (by decide) ?_
  refine r_bipushZ (pc := 3) C dX0_letter_3 (by decide) ?_
  refine r_invP (pc := 5) 3 C dX0_letter_5 (xf_in c 32 126 hc (by unfold i32; omega) (by unfold i32; omega)) rfl (lw_S q311 q312 q81 q313) (by decide +kernel) rfl rfl ⟨Nat.le_of_ble_eq_true rfl, Nat.le_of_ble_eq_true rfl⟩ (Nat.le_of_ble_eq_true rfl) ⟨(by first | exact Nat.le_of_ble_eq_true rfl | (dsimp only [rmk]; omega) | omega), (by first | exact Nat.le_of_ble_eq_true rfl | (dsimp only [rmk]; omega) | omega)⟩ ?_
  refine r_if_neB (pc := 8) (tgt := 14) C dX0_letter_8 (by decide)  (fun h8 => ?_) (fun h8 => ?_)
  · refine r_aload_n (pc := 14) C dX0_letter_14 rfl rfl ?_
    refine r_get (pc := 15) (k := 5) (ci := 0) C dX0_letter_15 (g1 h.ob) (show vwC[0]? = some (RX0, TX0, 10) from rfl) in_X0 (by decide) (C.t _ q280) (fun _ h => h) rfl ?_
    refine r_invV (pc := 18) (ci := 9) 0 C dX0_letter_18 (jb_length h.pg) (gB h.pg) (show vwC[9]? = some (RJ8, TJ8, 4) from rfl) rfl (lw_V q315 q316 q317 q91 q318) (by decide +kernel) rfl rfl ⟨Nat.le_of_ble_eq_true rfl, Nat.le_of_ble_eq_true rfl⟩ (Nat.le_of_ble_eq_true rfl) ⟨(by first | exact Nat.le_of_ble_eq_true rfl | (dsimp only [rmk]; omega) | omega), (by first | exact Nat.le_of_ble_eq_true rfl | (dsimp only [rmk]; omega) | omega)⟩ (rd_k ?_)
    refine r_bipushZ (pc := 21) C dX0_letter_21 (by decide) ?_
    refine r_icmp_neZ (pc := 23) (tgt := 29) C dX0_letter_23 (by decide) (by unfold i32; omega) (by unfold i32; omega) (fun h23 => ?_) (fun h23 => ?_)
    · refine r_aload_n (pc := 29) C dX0_letter_29 rfl rfl ?_
      refine r_get (pc := 30) (k := 5) (ci := 0) C dX0_letter_30 (g1 h.ob) (show vwC[0]? = some (RX0, TX0, 10) from rfl) in_X0 (by decide) (C.t _ q280) (fun _ h => h) rfl ?_
      refine r_iload_n (pc := 33) C dX0_letter_33 rfl rfl ?_
      refine r_i2cZ (pc := 34) C dX0_letter_34 (by omega) (by omega) ?_
      rw [show iI c = iI ((c.toNat : Nat) : Int) by rw [Int.toNat_of_nonneg (by omega)]]
      refine r_invV (pc := 35) (ci := 9) 1 C dX0_letter_35 (jb_app c.toNat h.pg (by decide) (by omega) (by omega)) (gB h.pg) (show vwC[9]? = some (RJ8, TJ8, 4) from rfl) rfl (lw_V q323 q324 q325 q91 q326) (by decide +kernel) rfl rfl ⟨Nat.le_of_ble_eq_true rfl, Nat.le_of_ble_eq_true rfl⟩ (Nat.le_of_ble_eq_true rfl) ⟨(by first | exact Nat.le_of_ble_eq_true rfl | (dsimp only [rmk]; omega) | omega), (by first | exact Nat.le_of_ble_eq_true rfl | (dsimp only [rmk]; omega) | omega)⟩ (fun v35 G35 h35 => ?_)
      obtain ⟨rfl, q1, q2⟩ := h35
      have h2 := h.page q2 (by simp) q1 (fun d hd => (List.mem_append.mp hd).elim (h.ch d) (fun e => by have hd2 : d = c.toNat := (by simpa using e); omega))
      refine r_pop (pc := 38) C dX0_letter_38 rfl ?_
      refine r_aload_n (pc := 39) C dX0_letter_39 rfl rfl ?_
      refine r_get (pc := 40) (k := 5) (ci := 0) C dX0_letter_40 (g1 h2.ob) (show vwC[0]? = some (RX0, TX0, 10) from rfl) in_X0 (by decide) (C.t _ q280) (fun _ h => h) rfl ?_
      refine r_invV (pc := 43) (ci := 9) 0 C dX0_letter_43 (jb_length q1) (gB q1) (show vwC[9]? = some (RJ8, TJ8, 4) from rfl) rfl (lw_V q315 q316 q317 q91 q318) (by decide +kernel) rfl rfl ⟨Nat.le_of_ble_eq_true rfl, Nat.le_of_ble_eq_true rfl⟩ (Nat.le_of_ble_eq_true rfl) ⟨(by first | exact Nat.le_of_ble_eq_true rfl | (dsimp only [rmk]; omega) | omega), (by first | exact Nat.le_of_ble_eq_true rfl | (dsimp only [rmk]; omega) | omega)⟩ (rd_k ?_)
      exact r_iret (pc := 46) C hQ dX0_letter_46 (by first | exact Nat.le_of_ble_eq_true rfl | (dsimp only [rmk]; omega) | omega) (by first | exact Nat.le_of_ble_eq_true rfl | (dsimp only [rmk]; omega) | omega) (fun G hG => (by cases hG; unfold sLetter; rw [if_pos h8, if_neg (by omega)]; refine ⟨?_, h2, q2⟩; rw [List.length_append]; rfl))
    · refine r_ldcZ (pc := 26) (a := -2000000104) C dX0_letter_26 rfl q322 (by decide) ?_
      exact r_iret (pc := 28) C hQ dX0_letter_28 (by first | exact Nat.le_of_ble_eq_true rfl | (dsimp only [rmk]; omega) | omega) (by first | exact Nat.le_of_ble_eq_true rfl | (dsimp only [rmk]; omega) | omega) (fun G hG => (by cases hG; unfold sLetter; rw [if_pos h8, if_pos (by omega)]; exact ⟨rfl, h, FR.rf⟩))
  · refine r_ldcZ (pc := 11) (a := -2000000102) C dX0_letter_11 rfl q314 (by decide) ?_
    exact r_iret (pc := 13) C hQ dX0_letter_13 (by first | exact Nat.le_of_ble_eq_true rfl | (dsimp only [rmk]; omega) | omega) (by first | exact Nat.le_of_ble_eq_true rfl | (dsimp only [rmk]; omega) | omega) (fun G hG => (by cases hG; unfold sLetter; rw [if_neg h8]; exact ⟨rfl, h, FR.rf⟩))
set_option maxHeartbeats 800000 in
theorem xo_blank {la : Launch} {X : XE} {G0 : Gh} {xh : Nat} {x : AS} {A : Nat → Nat} {dr : Int} {rls : List Nat} {rm : Nat} {fls : List Nat} {fm : Nat} {cls : List Nat} {cm : Nat} (h : CW X G0 xh x A dr rls rm fls fm cls cm) : MG la X yX0_blank cX0_blank 2 (some .int) (rmk 3 0 0 64) [.ref xh] (fun G => G = G0) (fun v G => v = some (.int (iI (x.pg.length : Nat))) ∧ CW X G xh (setpg x []) A dr rls rm fls fm cls cm ∧ FR [4] G0 G) := by
  refine MG.of (by decide +kernel) (Nat.le_of_ble_eq_true rfl) ?_
  intro Z C hX hL hQ
  subst hX; subst hL
  change WW Z 2 (fun G => G = G0) 0 0 0 [some (.ref xh), none] []
  refine r_aload_n (pc := 0) C dX0_blank_0 rfl rfl ?_
  refine r_get (pc := 1) (k := 5) (ci := 0) C dX0_blank_1 (g1 h.ob) (show vwC[0]? = some (RX0, TX0, 10) from rfl) in_X0 (by decide) (C.t _ q280) (fun _ h => h) rfl ?_
  refine r_invV (pc := 4) (ci := 9) 0 C dX0_blank_4 (jb_length h.pg) (gB h.pg) (show vwC[9]? = some (RJ8, TJ8, 4) from rfl) rfl (lw_V q315 q316 q317 q91 q318) (by decide +kernel) rfl rfl ⟨Nat.le_of_ble_eq_true rfl, Nat.le_of_ble_eq_true rfl⟩ (Nat.le_of_ble_eq_true rfl) ⟨(by first | exact Nat.le_of_ble_eq_true rfl | (dsimp only [rmk]; omega) | omega), (by first | exact Nat.le_of_ble_eq_true rfl | (dsimp only [rmk]; omega) | omega)⟩ (rd_k ?_)
  refine r_istore_n (pc := 7) C dX0_blank_7 rfl (by decide) ?_
  refine r_aload_n (pc := 8) C dX0_blank_8 rfl rfl ?_
  refine r_get (pc := 9) (k := 5) (ci := 0) C dX0_blank_9 (g1 h.ob) (show vwC[0]? = some (RX0, TX0, 10) from rfl) in_X0 (by decide) (C.t _ q280) (fun _ h => h) rfl ?_
  refine r_iconstZ (pc := 12) C dX0_blank_12 ?_
  refine r_invV (pc := 13) (ci := 9) 1 C dX0_blank_13 (jb_clear h.pg (by decide)) (gB h.pg) (show vwC[9]? = some (RJ8, TJ8, 4) from rfl) rfl (lw_V q413 q414 q415 q91 q416) (by decide +kernel) rfl rfl ⟨Nat.le_of_ble_eq_true rfl, Nat.le_of_ble_eq_true rfl⟩ (Nat.le_of_ble_eq_true rfl) ⟨(by first | exact Nat.le_of_ble_eq_true rfl | (dsimp only [rmk]; omega) | omega), (by first | exact Nat.le_of_ble_eq_true rfl | (dsimp only [rmk]; omega) | omega)⟩ (fun v13 G13 h13 => ?_)
  obtain ⟨rfl, q1, q2⟩ := h13
  refine r_iload_n (pc := 16) C dX0_blank_16 rfl rfl ?_
  exact r_iret (pc := 17) C hQ dX0_blank_17 (by first | exact Nat.le_of_ble_eq_true rfl | (dsimp only [rmk]; omega) | omega) (by first | exact Nat.le_of_ble_eq_true rfl | (dsimp only [rmk]; omega) | omega) (fun G hG => (by cases hG; exact ⟨rfl, h.page q2 (by simp) q1 (fun c hc => by cases hc), q2⟩))
set_option maxHeartbeats 800000 in
theorem xo_fault {la : Launch} {X : XE} {G0 : Gh} {xh : Nat} {x : AS} {A : Nat → Nat} {dr : Int} {rls : List Nat} {rm : Nat} {fls : List Nat} {fm : Nat} {cls : List Nat} {cm : Nat} (h : CW X G0 xh x A dr rls rm fls fm cls cm) : MG la X yX0_fault cX0_fault 1 (some .int) (rmk 6 3 26 133) [.ref xh] (fun G => G = G0) (fun v G => v = some (.int (iI ((rd x.pg).1 : Nat))) ∧ FR [9, 12] G0 G) := by
  refine MG.of (by decide +kernel) (Nat.le_of_ble_eq_true rfl) ?_
  intro Z C hX hL hQ
  subst hX; subst hL
  change WW Z 1 (fun G => G = G0) 0 0 0 [some (.ref xh)] []
  refine r_newE (pc := 0) (ci := 3) (fs := [.null, .int (iI 0)]) 12 C dX0_fault_0 (show vwC[3]? = some (RX3, TX3, 2) from rfl) in_X3 tyX3 tyX3_ok q437 q438 q97 (by decide +kernel) (by first | exact Nat.le_of_ble_eq_true rfl | (dsimp only [rmk]; omega) | omega) (by first | exact Nat.le_of_ble_eq_true rfl | (dsimp only [rmk]; omega) | omega) (fun a0 n0 => ?_)
  refine r_dup (pc := 3) C dX0_fault_3 rfl ?_
  refine r_aload_n (pc := 4) C dX0_fault_4 rfl rfl ?_
  refine r_get (pc := 5) (k := 5) (ci := 0) C dX0_fault_5 (g1 (up0 n0 h.ob)) (show vwC[0]? = some (RX0, TX0, 10) from rfl) in_X0 (by decide) (C.t _ q280) (fun _ h => h) rfl ?_
  refine r_invI (pc := 8) 1 C dX0_fault_8 (xd_init (gup_eq _ _ _) (h.pg.fr (FR.new (ts := []) n0) (by decide)) (by decide) h.pg.2.1) rfl (lw_meth q441) q97 q439 q440 rfl (by decide +kernel) rfl rfl ⟨Nat.le_of_ble_eq_true rfl, Nat.le_of_ble_eq_true rfl⟩ (Nat.le_of_ble_eq_true rfl) ⟨(by first | exact Nat.le_of_ble_eq_true rfl | (dsimp only [rmk]; omega) | omega), (by first | exact Nat.le_of_ble_eq_true rfl | (dsimp only [rmk]; omega) | omega)⟩ (fun v8 G8 h8 => ?_)
  obtain ⟨rfl, s, q1⟩ := h8
  refine r_getN (pc := 11) (k := 1) (ci := 3) C dX0_fault_11 (g1 q1.1) (show vwC[3]? = some (RX3, TX3, 2) from rfl) in_X3 (by decide) (C.nf (h1 := "RiverWords") (by decide +kernel)) (fun _ h => h) rfl ?_
  exact r_iret (pc := 14) C hQ dX0_fault_14 (by first | exact Nat.le_of_ble_eq_true rfl | (dsimp only [rmk]; omega) | omega) (by first | exact Nat.le_of_ble_eq_true rfl | (dsimp only [rmk]; omega) | omega) (fun G hG => (by cases hG; exact ⟨rfl, (FR.new (ts := [9, 12]) n0).tr q1.2.2⟩))
set_option maxHeartbeats 800000 in
theorem xo_comes {la : Launch} {X : XE} {G0 : Gh} {xh : Nat} {x : AS} {A : Nat → Nat} {dr : Int} {rls : List Nat} {rm : Nat} {fls : List Nat} {fm : Nat} {cls : List Nat} {cm : Nat} (h : CW X G0 xh x A dr rls rm fls fm cls cm) {s : Nat} {w : List Bool} (hs : STR G0 s (txt w)) (hw : 0 < w.length ∧ w.length ≤ 20000) : MG la X yX0_comes cX0_comes 2 (some .int) (rmk 7 22 123 171) [.ref xh, .ref s] (fun G => G = G0) (fun v G => v = some (.int (iI (sCome x.ws w).1)) ∧ (∃ rls' rm', CW X G xh (setws x (sCome x.ws w).2) A dr rls' rm' fls fm cls cm) ∧ FR [2, 3] G0 G) := by
  refine MG.of (by decide +kernel) (Nat.le_of_ble_eq_true rfl) ?_
  intro Z C hX hL hQ
  subst hX; subst hL
  change WW Z 2 (fun G => G = G0) 0 0 0 [some (.ref xh), some (.ref s)] []
  have hk := h.rk
  have hk6 : x.ws.length ≤ 6 := hk.1
  have hmr0 := h.hmr
  refine r_aload_n (pc := 0) C dX0_comes_0 rfl rfl ?_
  refine r_invV (pc := 1) (ci := 7) 0 C dX0_comes_1 (xs_length hs) (gS hs) (show vwC[7]? = some (RJ0, TJ0, 4) from rfl) rfl (lw_V q579 q452 q1641 q83 q454) (by decide +kernel) rfl rfl ⟨Nat.le_of_ble_eq_true rfl, Nat.le_of_ble_eq_true rfl⟩ (Nat.le_of_ble_eq_true rfl) ⟨(by first | exact Nat.le_of_ble_eq_true rfl | (dsimp only [rmk]; omega) | omega), (by first | exact Nat.le_of_ble_eq_true rfl | (dsimp only [rmk]; omega) | omega)⟩ (rd_k ?_)
  refine r_bipushZ (pc := 4) C dX0_comes_4 (by decide) ?_
  refine r_icmp_leZ (pc := 6) (tgt := 12) C dX0_comes_6 (by decide) (by unfold i32; omega) (by unfold i32; omega) (fun h6 => ?_) (fun h6 => ?_)
  · refine r_aload_n (pc := 12) C dX0_comes_12 rfl rfl ?_
    refine r_get (pc := 13) (k := 3) (ci := 0) C dX0_comes_13 (g1 h.ob) (show vwC[0]? = some (RX0, TX0, 10) from rfl) in_X0 (by decide) (C.t _ q278) (fun _ h => h) rfl ?_
    refine r_invV (pc := 16) (ci := 8) 0 C dX0_comes_16 (jl_size h.rl) (gLs h.rl) (show vwC[8]? = some (RJ6, TJ6, 3) from rfl) rfl (lw_V q580 q581 q582 q89 q583) (by decide +kernel) rfl rfl ⟨Nat.le_of_ble_eq_true rfl, Nat.le_of_ble_eq_true rfl⟩ (Nat.le_of_ble_eq_true rfl) ⟨(by first | exact Nat.le_of_ble_eq_true rfl | (dsimp only [rmk]; omega) | omega), (by first | exact Nat.le_of_ble_eq_true rfl | (dsimp only [rmk]; omega) | omega)⟩ (rd_k ?_)
    rw [h.rn]
    refine r_bipushZ (pc := 19) C dX0_comes_19 (by decide) ?_
    refine r_icmp_neZ (pc := 21) (tgt := 27) C dX0_comes_21 (by decide) (by have := hk.1; unfold i32; omega) (by unfold i32; omega) (fun h21 => ?_) (fun h21 => ?_)
    · refine r_aload_n (pc := 27) C dX0_comes_27 rfl rfl ?_
      refine r_get (pc := 28) (k := 3) (ci := 0) C dX0_comes_28 (g1 h.ob) (show vwC[0]? = some (RX0, TX0, 10) from rfl) in_X0 (by decide) (C.t _ q278) (fun _ h => h) rfl ?_
      refine r_newE (pc := 31) (ci := 4) (fs := [.null, .null, .null]) 3 C dX0_comes_31 (show vwC[4]? = some (RX4, TX4, 3) from rfl) in_X4 tyX4 tyX4_ok q584 q585 q98 (by decide +kernel) (by first | exact Nat.le_of_ble_eq_true rfl | (dsimp only [rmk]; omega) | omega) (by first | exact Nat.le_of_ble_eq_true rfl | (dsimp only [rmk]; omega) | omega) (fun a31 n31 => ?_)
      refine r_dup (pc := 34) C dX0_comes_34 rfl ?_
      refine r_aload_n (pc := 35) C dX0_comes_35 rfl rfl ?_
      refine r_aload_n (pc := 36) C dX0_comes_36 rfl rfl ?_
      refine r_invI (pc := 37) 2 C dX0_comes_37 (xo_initR (h.xo.fr (FR.new (ts := []) n31) (by decide) (by decide)) (hs.fr (FR.new (ts := []) n31) (by decide)) (by omega) (gup_eq _ _ _) (by decide)) rfl (lw_meth q588) q98 q586 q587 rfl (by decide +kernel) rfl rfl ⟨Nat.le_of_ble_eq_true rfl, Nat.le_of_ble_eq_true rfl⟩ (Nat.le_of_ble_eq_true rfl) ⟨(by first | exact Nat.le_of_ble_eq_true rfl | (dsimp only [rmk]; omega) | omega), (by first | exact Nat.le_of_ble_eq_true rfl | (dsimp only [rmk]; omega) | omega)⟩ (fun v37 G37 h37 => ?_)
      obtain ⟨rfl, q1, q2, q3⟩ := h37
      have f1 : FR [] G0 G37 := FRA.made n31 q3
      have h2 := h.fr f1 (by simp)
      have hrl := h.rl
      have R2 := h.rs.push n31 h2.rs q1
      obtain ⟨s0, tb0, qa, -⟩ := id q1
      refine ww_wide (n' := 21) (s' := 83 + 4 * rm) (by dsimp only [rmk]; omega) (by dsimp only [rmk]; omega) ?_
      refine r_addA (pc := 40) (c0 := 83) h2.rl (by decide) (by rw [h.rn]; omega) h2.rs.obj ⟨3, _, _, by decide, qa⟩ ⟨Nat.le_of_ble_eq_true rfl, Nat.le_of_ble_eq_true rfl⟩ (Nat.le_of_ble_eq_true rfl) ⟨by dsimp only [rmk]; omega, by have := h.hmr; dsimp only [rmk]; omega, fun he => by rw [h.rn] at he; have hm0 : rm = 0 := (by have := h.hmr; omega); rw [hm0, show gcap 0 = 10 from rfl]; dsimp only [rmk]; omega⟩ C dX0_comes_40 rfl (lw_V q618 q619 q620 q89 q621) (fun G40 m40 k40a k40b k40c => ?_)
      have hm40 : m40 = 0 ∨ m40 = 10 := (by rcases k40b with q | ⟨q, q'⟩; (rw [q]; exact h.hmr); (rw [h.rn] at q; have hm0 : rm = 0 := (by have := h.hmr; omega); rw [q', hm0]; exact Or.inr rfl))
      have h3 := h2.roads k40c (by simp) k40a hm40 (R2.fr k40c (by decide) (by decide)) (hk.push (by omega) ⟨hw.1, by omega⟩)
      refine r_pop (pc := 43) C dX0_comes_43 rfl ?_
      refine r_aload_n (pc := 44) C dX0_comes_44 rfl rfl ?_
      refine r_get (pc := 45) (k := 3) (ci := 0) C dX0_comes_45 (g1 h3.ob) (show vwC[0]? = some (RX0, TX0, 10) from rfl) in_X0 (by decide) (C.t _ q278) (fun _ h => h) rfl ?_
      refine r_invV (pc := 48) (ci := 8) 0 C dX0_comes_48 (jl_size k40a) (gLs k40a) (show vwC[8]? = some (RJ6, TJ6, 3) from rfl) rfl (lw_V q580 q581 q582 q89 q583) (by decide +kernel) rfl rfl ⟨Nat.le_of_ble_eq_true rfl, Nat.le_of_ble_eq_true rfl⟩ (Nat.le_of_ble_eq_true rfl) ⟨by dsimp only [rmk]; omega, by dsimp only [rmk]; omega⟩ (rd_k ?_)
      refine r_iconstZ (pc := 51) C dX0_comes_51 ?_
      refine r_isubZ (pc := 52) C dX0_comes_52 ?_
      exact r_iret (pc := 53) C hQ dX0_comes_53 (by dsimp only [rmk]; omega) (by dsimp only [rmk]; omega) (fun G hG => (by cases hG; unfold sCome; rw [if_neg (by omega), if_neg (by omega)]; refine ⟨?_, ⟨_, _, h3⟩, (f1.nil _).tr (k40c.wk (by decide))⟩; rw [List.length_append, h.rn, List.length_singleton]; congr 3; omega))
    · refine r_ldcZ (pc := 24) (a := -2000000104) C dX0_comes_24 rfl q322 (by decide) ?_
      exact r_iret (pc := 26) C hQ dX0_comes_26 (by first | exact Nat.le_of_ble_eq_true rfl | (dsimp only [rmk]; omega) | omega) (by first | exact Nat.le_of_ble_eq_true rfl | (dsimp only [rmk]; omega) | omega) (fun G hG => (by cases hG; unfold sCome; rw [if_neg (by omega), if_pos (by omega)]; exact ⟨rfl, ⟨rls, rm, h⟩, FR.rf⟩))
  · refine r_ldcZ (pc := 9) (a := -2000000103) C dX0_comes_9 rfl q522 (by decide) ?_
    exact r_iret (pc := 11) C hQ dX0_comes_11 (by first | exact Nat.le_of_ble_eq_true rfl | (dsimp only [rmk]; omega) | omega) (by first | exact Nat.le_of_ble_eq_true rfl | (dsimp only [rmk]; omega) | omega) (fun G hG => (by cases hG; unfold sCome; rw [if_pos (by omega)]; exact ⟨rfl, ⟨rls, rm, h⟩, FR.rf⟩))
set_option maxHeartbeats 800000 in
theorem xo_word {la : Launch} {X : XE} {G0 : Gh} {xh : Nat} {x : AS} {A : Nat → Nat} {dr : Int} {rls : List Nat} {rm : Nat} {fls : List Nat} {fm : Nat} {cls : List Nat} {cm : Nat} (h : CW X G0 xh x A dr rls rm fls fm cls cm) : MG la X yX0_word cX0_word 3 (some .int) (rmk 8 27 180 192) [.ref xh] (fun G => G = G0) (fun v G => v = some (.int (iI (sWord x.ws x.pg).1)) ∧ COMP X G xh ((sWord x.ws x.pg).2.2.1, (sWord x.ws x.pg).2.1, x.rdn + (sWord x.ws x.pg).2.2.2, x.d) ∧ FR cT G0 G) := by
  refine MG.of (by decide +kernel) (Nat.le_of_ble_eq_true rfl) ?_
  intro Z C hX hL hQ
  subst hX; subst hL
  change WW Z 3 (fun G => G = G0) 0 0 0 [some (.ref xh), none, none] []
  have hpl := h.pg.2.1
  have hrl := rdAll_le x.pg ([], false)
  have hrz := rd_zero x.pg
  refine r_newE (pc := 0) (ci := 3) (fs := [.null, .int (iI 0)]) 12 C dX0_word_0 (show vwC[3]? = some (RX3, TX3, 2) from rfl) in_X3 tyX3 tyX3_ok q437 q438 q97 (by decide +kernel) (by first | exact Nat.le_of_ble_eq_true rfl | (dsimp only [rmk]; omega) | omega) (by first | exact Nat.le_of_ble_eq_true rfl | (dsimp only [rmk]; omega) | omega) (fun a0 n0 => ?_)
  refine r_dup (pc := 3) C dX0_word_3 rfl ?_
  refine r_aload_n (pc := 4) C dX0_word_4 rfl rfl ?_
  refine r_get (pc := 5) (k := 5) (ci := 0) C dX0_word_5 (g1 (up0 n0 h.ob)) (show vwC[0]? = some (RX0, TX0, 10) from rfl) in_X0 (by decide) (C.t _ q280) (fun _ h => h) rfl ?_
  refine r_invI (pc := 8) 1 C dX0_word_8 (xd_init (gup_eq _ _ _) (h.pg.fr (FR.new (ts := []) n0) (by decide)) (by decide) h.pg.2.1) rfl (lw_meth q441) q97 q439 q440 rfl (by decide +kernel) rfl rfl ⟨Nat.le_of_ble_eq_true rfl, Nat.le_of_ble_eq_true rfl⟩ (Nat.le_of_ble_eq_true rfl) ⟨(by first | exact Nat.le_of_ble_eq_true rfl | (dsimp only [rmk]; omega) | omega), (by first | exact Nat.le_of_ble_eq_true rfl | (dsimp only [rmk]; omega) | omega)⟩ (fun v8 G8 h8 => ?_)
  obtain ⟨rfl, s, q1⟩ := h8
  have f1 := (FR.new (ts := [9, 12]) n0).tr q1.2.2
  have h1 := h.fr f1 (by simp)
  have hwl : (rd x.pg).2.length ≤ 20 := (by have := q1.2.1.2.1; rw [txt_len] at this; exact this)
  refine r_astore_n (pc := 11) C dX0_word_11 rfl (by decide) ?_
  refine r_aload_n (pc := 12) C dX0_word_12 rfl rfl ?_
  refine r_getN (pc := 13) (k := 1) (ci := 3) C dX0_word_13 (g1 q1.1) (show vwC[3]? = some (RX3, TX3, 2) from rfl) in_X3 (by decide) (C.nf (h1 := "RiverWords") (by decide +kernel)) (fun _ h => h) rfl ?_
  refine r_aload_n (pc := 16) C dX0_word_16 rfl rfl ?_
  refine r_get (pc := 17) (k := 5) (ci := 0) C dX0_word_17 (g1 h1.ob) (show vwC[0]? = some (RX0, TX0, 10) from rfl) in_X0 (by decide) (C.t _ q280) (fun _ h => h) rfl ?_
  refine r_invV (pc := 20) (ci := 9) 0 C dX0_word_20 (jb_length h1.pg) (gB h1.pg) (show vwC[9]? = some (RJ8, TJ8, 4) from rfl) rfl (lw_V q315 q316 q317 q91 q318) (by decide +kernel) rfl rfl ⟨Nat.le_of_ble_eq_true rfl, Nat.le_of_ble_eq_true rfl⟩ (Nat.le_of_ble_eq_true rfl) ⟨(by first | exact Nat.le_of_ble_eq_true rfl | (dsimp only [rmk]; omega) | omega), (by first | exact Nat.le_of_ble_eq_true rfl | (dsimp only [rmk]; omega) | omega)⟩ (rd_k ?_)
  refine r_icmp_ltZ (pc := 23) (tgt := 33) C dX0_word_23 (by decide) (by show i32 (((rd x.pg).1 : Nat) : Int); have : (rd x.pg).1 ≤ x.pg.length := hrl; unfold i32; omega) (by unfold i32; omega) (fun h23 => ?_) (fun h23 => ?_)
  · refine r_ldcZ (pc := 33) (a := -2000000103) C dX0_word_33 rfl q522 (by decide) ?_
    exact r_iret (pc := 35) C hQ dX0_word_35 (by first | exact Nat.le_of_ble_eq_true rfl | (dsimp only [rmk]; omega) | omega) (by first | exact Nat.le_of_ble_eq_true rfl | (dsimp only [rmk]; omega) | omega) (fun G hG => (by cases hG; unfold sWord; rw [if_pos (by first | exact Or.inl (by omega) | exact Or.inr (hrz.mp (by omega)))]; refine ⟨rfl, ?_, f1.wk (by decide)⟩; rw [Int.add_zero]; exact h1.comp))
  · refine r_aload_n (pc := 26) C dX0_word_26 rfl rfl ?_
    refine r_getN (pc := 27) (k := 1) (ci := 3) C dX0_word_27 (g1 q1.1) (show vwC[3]? = some (RX3, TX3, 2) from rfl) in_X3 (by decide) (C.nf (h1 := "RiverWords") (by decide +kernel)) (fun _ h => h) rfl ?_
    refine r_if_neZ (pc := 30) (tgt := 36) C dX0_word_30 (by decide) (by have : (rd x.pg).1 ≤ x.pg.length := hrl; unfold i32; omega) (fun h30 => ?_) (fun h30 => ?_)
    · refine r_aload_n (pc := 36) C dX0_word_36 rfl rfl ?_
      refine r_aload_n (pc := 37) C dX0_word_37 rfl rfl ?_
      refine r_getN (pc := 38) (k := 0) (ci := 3) C dX0_word_38 (g1 q1.1) (show vwC[3]? = some (RX3, TX3, 2) from rfl) in_X3 (by decide) (C.nf (h1 := "RiverWords") (by decide +kernel)) (fun _ h => h) rfl ?_
      refine r_invV (pc := 41) (ci := 9) 0 C dX0_word_41 (xb_toString q1.2.1 (by decide)) (gB q1.2.1) (show vwC[9]? = some (RJ8, TJ8, 4) from rfl) rfl (lw_V q523 q524 q525 q91 q526) (by decide +kernel) rfl rfl ⟨Nat.le_of_ble_eq_true rfl, Nat.le_of_ble_eq_true rfl⟩ (Nat.le_of_ble_eq_true rfl) ⟨(by first | exact Nat.le_of_ble_eq_true rfl | (dsimp only [rmk]; omega) | omega), (by first | exact Nat.le_of_ble_eq_true rfl | (dsimp only [rmk]; omega) | omega)⟩ (fun v41 G41 h41 => ?_)
      obtain ⟨z, rfl, r1, r2⟩ := h41
      have h2 := h1.fr r2 (by simp)
      have q2 := q1.1
      have hno : ¬ ((rd x.pg).1 < x.pg.length ∨ (rd x.pg).2.length = 0) := (by intro q; rcases q with q | q; omega; exact h30 (by rw [hrz.mpr q]; rfl))
      refine r_invV (pc := 44) (ci := 0) 1 C dX0_word_44 (xo_comes h2 r1 ⟨by rcases Nat.eq_zero_or_pos (rd x.pg).2.length with q | q; exact absurd (Or.inr q) hno; exact q, by omega⟩) (g2 h2.ob) (show vwC[0]? = some (RX0, TX0, 10) from rfl) rfl (lw_V q575 q577 qs3 q81 q578) (by decide +kernel) rfl rfl ⟨Nat.le_of_ble_eq_true rfl, Nat.le_of_ble_eq_true rfl⟩ (Nat.le_of_ble_eq_true rfl) ⟨(by first | exact Nat.le_of_ble_eq_true rfl | (dsimp only [rmk]; omega) | omega), (by first | exact Nat.le_of_ble_eq_true rfl | (dsimp only [rmk]; omega) | omega)⟩ (fun v44 G44 h44 => ?_)
      obtain ⟨rfl, ⟨rls', rm', h3⟩, f3⟩ := h44
      have hsc : sCome x.ws (rd x.pg).2 = if x.ws.length = 6 then (FUL, x.ws) else ((x.ws.length : Int), x.ws ++ [(rd x.pg).2]) := if_neg (by omega)
      have f4 : FR [2, 3, 9, 12] G0 G44 := ((f1.wk (by decide)).tr (r2.nil _)).tr (f3.wk (by decide))
      refine r_istore_n (pc := 47) C dX0_word_47 rfl (by decide) ?_
      refine r_iload_n (pc := 48) C dX0_word_48 rfl rfl ?_
      have k6 : (sCome x.ws (rd x.pg).2).1 = -2000000104 → x.ws.length = 6 := (by rw [hsc]; intro e; by_cases q : x.ws.length = 6; exact q; rw [if_neg q] at e; dsimp only at e; omega)
      refine r_ldcZ (pc := 49) (a := -2000000104) C dX0_word_49 rfl q322 (by decide) ?_
      refine r_icmp_eqZ (pc := 51) (tgt := 72) C dX0_word_51 (by decide) (by rw [hsc]; have := h.rk.1; unfold i32 FUL; split <;> (dsimp only; omega)) (by unfold i32; omega) (fun h51 => ?_) (fun h51 => ?_)
      · refine r_iload_n (pc := 72) C dX0_word_72 rfl rfl ?_
        exact r_iret (pc := 73) C hQ dX0_word_73 (by first | exact Nat.le_of_ble_eq_true rfl | (dsimp only [rmk]; omega) | omega) (by first | exact Nat.le_of_ble_eq_true rfl | (dsimp only [rmk]; omega) | omega) (fun G hG => (by cases hG; unfold sWord; rw [if_neg hno]; first | (have h6 := k6 h51; rw [if_pos h6]; rw [hsc, if_pos h6] at h3 ⊢; refine ⟨rfl, ?_, f4.wk (by decide)⟩; dsimp only; rw [Int.add_zero]; exact h3.comp) | (rw [if_neg h6]; rw [hsc, if_neg h6] at h5 ⊢; refine ⟨rfl, h5.comp, ((f4.wk (by decide)).tr (f5.wk (by decide))).tr (q6.wk (by decide))⟩)))
      · have h6 : ¬ x.ws.length = 6 := (fun q => h51 (by rw [hsc, if_pos q]))
        refine r_aload_n (pc := 54) C dX0_word_54 rfl rfl ?_
        skip
        refine r_dup (pc := 55) C dX0_word_55 rfl ?_
        refine r_get (pc := 56) (k := 4) (ci := 0) C dX0_word_56 (g1 h3.ob) (show vwC[0]? = some (RX0, TX0, 10) from rfl) in_X0 (by decide) (C.t _ q279) (fun _ h => h) rfl ?_
        refine r_iconstZ (pc := 59) C dX0_word_59 ?_
        refine r_iaddZ (pc := 60) C dX0_word_60 ?_
        refine r_put (pc := 61) (k := 4) (ci := 0) (ty := .int) C dX0_word_61 (Γ' := fun G => G = gup G44 xh (1, .inl (0, xfs A (x.rdn + 1) x.d dr))) (fun G hG => ⟨1, by decide, by rw [hG]; exact h3.ob, by rw [hG]; rfl⟩) (show vwC[0]? = some (RX0, TX0, 10) from rfl) in_X0 tyX0 tyX0_ok nmX0 (by decide) (C.t _ q279) (fun _ h => h) rfl (by decide +kernel) rfl rfl (Nat.le_of_ble_eq_true rfl) ?_
        have f5 : FR [1] G44 (gup G44 xh (1, .inl (0, xfs A (x.rdn + 1) x.d dr))) := FR.up h3.ob (by decide) 1
        have h4 := h3.self f5 (by simp) (gup_eq _ _ _)
        generalize gup G44 xh _ = G2 at f5 h4 ⊢
        refine r_aload_n (pc := 64) C dX0_word_64 rfl rfl ?_
        refine r_get (pc := 65) (k := 5) (ci := 0) C dX0_word_65 (g1 h4.ob) (show vwC[0]? = some (RX0, TX0, 10) from rfl) in_X0 (by decide) (C.t _ q280) (fun _ h => h) rfl ?_
        refine r_iconstZ (pc := 68) C dX0_word_68 ?_
        refine r_invV (pc := 69) (ci := 9) 1 C dX0_word_69 (jb_clear h4.pg (by decide)) (gB h4.pg) (show vwC[9]? = some (RJ8, TJ8, 4) from rfl) rfl (lw_V q413 q414 q415 q91 q416) (by decide +kernel) rfl rfl ⟨Nat.le_of_ble_eq_true rfl, Nat.le_of_ble_eq_true rfl⟩ (Nat.le_of_ble_eq_true rfl) ⟨(by first | exact Nat.le_of_ble_eq_true rfl | (dsimp only [rmk]; omega) | omega), (by first | exact Nat.le_of_ble_eq_true rfl | (dsimp only [rmk]; omega) | omega)⟩ (fun v69 G69 h69 => ?_)
        obtain ⟨rfl, q5, q6⟩ := h69
        have h5 := h4.page q6 (by simp) q5 (fun c hc => by cases hc)
        refine r_iload_n (pc := 72) C dX0_word_72 rfl rfl ?_
        exact r_iret (pc := 73) C hQ dX0_word_73 (by first | exact Nat.le_of_ble_eq_true rfl | (dsimp only [rmk]; omega) | omega) (by first | exact Nat.le_of_ble_eq_true rfl | (dsimp only [rmk]; omega) | omega) (fun G hG => (by cases hG; unfold sWord; rw [if_neg hno]; first | (have h6 := k6 h51; rw [if_pos h6]; rw [hsc, if_pos h6] at h3 ⊢; refine ⟨rfl, ?_, f4.wk (by decide)⟩; dsimp only; rw [Int.add_zero]; exact h3.comp) | (rw [if_neg h6]; rw [hsc, if_neg h6] at h5 ⊢; refine ⟨rfl, h5.comp, ((f4.wk (by decide)).tr (f5.wk (by decide))).tr (q6.wk (by decide))⟩)))
    · refine r_ldcZ (pc := 33) (a := -2000000103) C dX0_word_33 rfl q522 (by decide) ?_
      exact r_iret (pc := 35) C hQ dX0_word_35 (by first | exact Nat.le_of_ble_eq_true rfl | (dsimp only [rmk]; omega) | omega) (by first | exact Nat.le_of_ble_eq_true rfl | (dsimp only [rmk]; omega) | omega) (fun G hG => (by cases hG; unfold sWord; rw [if_pos (by first | exact Or.inl (by omega) | exact Or.inr (hrz.mp (by omega)))]; refine ⟨rfl, ?_, f1.wk (by decide)⟩; rw [Int.add_zero]; exact h1.comp))

