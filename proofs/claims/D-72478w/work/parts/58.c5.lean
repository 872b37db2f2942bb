/-! the component: crossings, cuts, drawn words, traces, forms that flow -/
set_option maxRecDepth 100000
theorem xs_bk {la : Launch} {X : XE} {G0 : Gh} {s : Nat} {w : List Bool} (i t : Nat) (h : STR G0 s (txt w)) (h0 : 0 < w.length) : MG la X yJ0_charAt cJ0_charAt 2 (some .char) (rmk 3 0 0 64) [.ref s, .int (iI (((i : Int) - (t : Int)) % (w.length : Nat)))] (fun G => G = G0) (fun zv G => zv = some (.int (iI (codeB (wb w i t)))) ∧ G = G0) := by
  have h1 := Int.emod_nonneg ((i : Int) - (t : Int)) (show (w.length : Int) ≠ 0 by omega)
  have h2 := Int.emod_lt_of_pos ((i : Int) - (t : Int)) (show (0 : Int) < w.length by omega)
  exact xs_at _ h ⟨h1, h2⟩
set_option maxHeartbeats 800000 in
theorem xo_around {la : Launch} {X : XE} {G0 : Gh} {s : Nat} {w : List Bool} (i t : Nat) (h : STR G0 s (txt w)) (h0 : 0 < w.length ∧ w.length ≤ 20) (hi : i ≤ 1000) (ht : t ≤ 1000) : MG la X yX0_around cX0_around 2 (some .char) (rmk 4 0 0 85) [.ref s, .int (iI ((i : Int) - (t : Int)))] (fun G => G = G0) (fun zv G => zv = some (.int (iI (codeB (wb w i t)))) ∧ G = G0) := by
  refine MG.of (by decide +kernel) (Nat.le_of_ble_eq_true rfl) ?_
  intro Z C hX hL hQ
  subst hX; subst hL
  change WW Z 2 (fun G => G = G0) 0 0 0 [some (.ref s), some (.int (iI ((i : Int) - (t : Int))))] []
  have c1 := codeB_b (wb w i t)
  refine r_aload_n (pc := 0) C dX0_around_0 rfl rfl ?_
  refine r_iload_n (pc := 1) C dX0_around_1 rfl rfl ?_
  refine r_aload_n (pc := 2) C dX0_around_2 rfl rfl ?_
  refine r_invF (pc := 3) (ci := 7) (x2 := ⟨"java/lang/CharSequence", "length", "()I"⟩) 0 C dX0_around_3 (xs_length h) (gS h) (show vwC[7]? = some (RJ0, TJ0, 4) from rfl) rfl (lw_F q599 q450 q452 q83 q454) (by decide +kernel) (by decide +kernel) rfl rfl ⟨Nat.le_of_ble_eq_true rfl, Nat.le_of_ble_eq_true rfl⟩ (Nat.le_of_ble_eq_true rfl) ⟨Nat.le_of_ble_eq_true rfl, Nat.le_of_ble_eq_true rfl⟩ (rd_k ?_)
  refine r_invP (pc := 8) 2 C dX0_around_8 (pf_floorMod ((i : Int) - (t : Int)) (w.length : Nat) (by unfold i32; omega) ⟨by omega, by omega⟩) rfl (lw_S q877 q878 q93 q879) (by decide +kernel) rfl rfl ⟨Nat.le_of_ble_eq_true rfl, Nat.le_of_ble_eq_true rfl⟩ (Nat.le_of_ble_eq_true rfl) ⟨Nat.le_of_ble_eq_true rfl, Nat.le_of_ble_eq_true rfl⟩ ?_
  refine r_invF (pc := 11) (ci := 7) (x2 := ⟨"java/lang/CharSequence", "charAt", "(I)C"⟩) 1 C dX0_around_11 (xs_bk i t h h0.1) (gS h) (show vwC[7]? = some (RJ0, TJ0, 4) from rfl) rfl (lw_F q601 q467 q469 q83 q471) (by decide +kernel) (by decide +kernel) rfl rfl ⟨Nat.le_of_ble_eq_true rfl, Nat.le_of_ble_eq_true rfl⟩ (Nat.le_of_ble_eq_true rfl) ⟨Nat.le_of_ble_eq_true rfl, Nat.le_of_ble_eq_true rfl⟩ (rd_k ?_)
  exact r_zret (pc := 16) C hQ dX0_around_16 (nar_c (by omega) (by omega)) (Nat.le_of_ble_eq_true rfl) (Nat.le_of_ble_eq_true rfl) (fun G hG => ⟨rfl, hG⟩)
set_option maxHeartbeats 800000 in
theorem xo_isCrossing {la : Launch} {X : XE} {G0 : Gh} {s s' : Nat} {u v : List Bool} (i j : Nat) (h : STR G0 s (txt u)) (h' : STR G0 s' (txt v)) (hu : 0 < u.length ∧ u.length ≤ 20) (hv : 0 < v.length ∧ v.length ≤ 20) (hi : i < u.length) (hj : j < v.length) : MG la X yX0_isCrossing cX0_isCrossing 6 (some .boolean) (rmk 5 0 0 106) [.ref s, .int (iI (i : Int)), .ref s', .int (iI (j : Int))] (fun G => G = G0) (fun zv G => zv = some (.int (iI (bi (isX u v i j)))) ∧ G = G0) := by
  refine MG.of (by decide +kernel) (Nat.le_of_ble_eq_true rfl) ?_
  intro Z C hX hL hQ
  subst hX; subst hL
  change WW Z 6 (fun G => G = G0) 0 0 0 [some (.ref s), some (.int (iI (i : Int))), some (.ref s'), some (.int (iI (j : Int))), none, none] []
  have hm : u.length * v.length ≤ 400 := Nat.mul_le_mul hu.2 hv.2
  have c1 := codeB_b (wl u i)
  have c2 := codeB_b (wl v j)
  have loop : wl u i ≠ wl v j → ∀ t : Nat, t ≤ u.length * v.length → (∀ k, k < t → wb u i (k + 1) = wb v j (k + 1)) → WW Z 6 (fun G => G = G0) 0 0 26 [some (.ref s), some (.int (iI (i : Int))), some (.ref s'), some (.int (iI (j : Int))), some (.int (iI (codeB (wl u i)))), some (.int (iI ((t : Int) + 1)))] [] := by
    intro hne
    refine loopN _ _ (fun t ht ih g => ?_)
    have ht1 : wb u i (t + 1) = wb v j (t + 1) → t < u.length * v.length := by
      intro he
      rcases Nat.lt_or_ge t (u.length * v.length) with q | q
      · exact q
      · have hp : 0 < u.length * v.length := Nat.mul_pos (by omega) (by omega)
        have h3 := g (u.length * v.length - 1) (by omega)
        rw [show u.length * v.length - 1 + 1 = u.length * v.length by omega] at h3
        rw [wb_wrap u hi, Nat.mul_comm, wb_wrap v hj] at h3
        exact absurd h3 hne
    have c3 := codeB_b (wb u i (t + 1))
    have c4 := codeB_b (wb v j (t + 1))
    refine r_aload_n (pc := 26) C dX0_isCrossing_26 rfl rfl ?_
    refine r_iload_n (pc := 27) C dX0_isCrossing_27 rfl rfl ?_
    refine r_iload (pc := 28) C dX0_isCrossing_28 rfl ?_
    refine r_isubZ (pc := 30) C dX0_isCrossing_30 ?_
    refine r_invS (pc := 31) 2 C dX0_isCrossing_31 (xo_around i (t + 1) h hu (by omega) (by omega)) rfl (lw_S q874 q875 q81 q876) (by decide +kernel) rfl rfl ⟨Nat.le_of_ble_eq_true rfl, Nat.le_of_ble_eq_true rfl⟩ (Nat.le_of_ble_eq_true rfl) ⟨Nat.le_of_ble_eq_true rfl, Nat.le_of_ble_eq_true rfl⟩ (rd_k ?_)
    refine r_aload_n (pc := 34) C dX0_isCrossing_34 rfl rfl ?_
    refine r_iload_n (pc := 35) C dX0_isCrossing_35 rfl rfl ?_
    refine r_iload (pc := 36) C dX0_isCrossing_36 rfl ?_
    refine r_isubZ (pc := 38) C dX0_isCrossing_38 ?_
    refine r_invS (pc := 39) 2 C dX0_isCrossing_39 (xo_around j (t + 1) h' hv (by omega) (by omega)) rfl (lw_S q874 q875 q81 q876) (by decide +kernel) rfl rfl ⟨Nat.le_of_ble_eq_true rfl, Nat.le_of_ble_eq_true rfl⟩ (Nat.le_of_ble_eq_true rfl) ⟨Nat.le_of_ble_eq_true rfl, Nat.le_of_ble_eq_true rfl⟩ (rd_k ?_)
    refine r_icmp_neZ (pc := 42) (tgt := 51) C dX0_isCrossing_42 (by decide) (by unfold i32; omega) (by unfold i32; omega) (fun h42 => ?_) (fun h42 => ?_)
    · refine r_aload_n (pc := 51) C dX0_isCrossing_51 rfl rfl ?_
      refine r_iload_n (pc := 52) C dX0_isCrossing_52 rfl rfl ?_
      refine r_iload (pc := 53) C dX0_isCrossing_53 rfl ?_
      refine r_isubZ (pc := 55) C dX0_isCrossing_55 ?_
      refine r_invS (pc := 56) 2 C dX0_isCrossing_56 (xo_around i (t + 1) h hu (by omega) (by omega)) rfl (lw_S q874 q875 q81 q876) (by decide +kernel) rfl rfl ⟨Nat.le_of_ble_eq_true rfl, Nat.le_of_ble_eq_true rfl⟩ (Nat.le_of_ble_eq_true rfl) ⟨Nat.le_of_ble_eq_true rfl, Nat.le_of_ble_eq_true rfl⟩ (rd_k ?_)
      refine r_iload (pc := 59) C dX0_isCrossing_59 rfl ?_
      refine r_icmp_eqZ (pc := 61) (tgt := 68) C dX0_isCrossing_61 (by decide) (by unfold i32; omega) (by unfold i32; omega) (fun h61 => ?_) (fun h61 => ?_)
      · refine r_iconstZ (pc := 68) C dX0_isCrossing_68 ?_
        exact r_zret (pc := 69) C hQ dX0_isCrossing_69 (by decide) (Nat.le_of_ble_eq_true rfl) (Nat.le_of_ble_eq_true rfl) (fun G hG => ⟨(by unfold isX; rw [crossT_spec hi hj hne g (fun e => h42 (by rw [e]))]; have hb : ∀ p q r : Bool, p ≠ q → (bi ((p != q) && (r == q)) = if r = p then 0 else 1) := (by intro p q r; cases p <;> cases q <;> cases r <;> simp [bi]); rw [hb _ _ _ hne]; first | (rw [if_pos (codeB_inj.mp h61)]; done) | (rw [if_neg (fun e => h61 (by rw [e]))]; done)), hG⟩)
      · refine r_iconstZ (pc := 64) C dX0_isCrossing_64 ?_
        refine r_goto (pc := 65) (tgt := 69) C dX0_isCrossing_65 (by decide) ?_
        exact r_zret (pc := 69) C hQ dX0_isCrossing_69 (by decide) (Nat.le_of_ble_eq_true rfl) (Nat.le_of_ble_eq_true rfl) (fun G hG => ⟨(by unfold isX; rw [crossT_spec hi hj hne g (fun e => h42 (by rw [e]))]; have hb : ∀ p q r : Bool, p ≠ q → (bi ((p != q) && (r == q)) = if r = p then 0 else 1) := (by intro p q r; cases p <;> cases q <;> cases r <;> simp [bi]); rw [hb _ _ _ hne]; first | (rw [if_pos (codeB_inj.mp h61)]; done) | (rw [if_neg (fun e => h61 (by rw [e]))]; done)), hG⟩)
    · refine r_iincZ (pc := 45) C dX0_isCrossing_45 rfl (by decide) ?_
      refine r_goto (pc := 48) (tgt := 26) C dX0_isCrossing_48 (by decide) ?_
      exact ih (ht1 (codeB_inj.mp h42)) (fun k hk => by by_cases e : k = t; rw [e]; exact codeB_inj.mp h42; exact g k (by omega))
  refine r_aload_n (pc := 0) C dX0_isCrossing_0 rfl rfl ?_
  refine r_iload_n (pc := 1) C dX0_isCrossing_1 rfl rfl ?_
  refine r_invF (pc := 2) (ci := 7) (x2 := ⟨"java/lang/CharSequence", "charAt", "(I)C"⟩) 1 C dX0_isCrossing_2 (xs_at (i : Int) h ⟨by omega, by omega⟩) (gS h) (show vwC[7]? = some (RJ0, TJ0, 4) from rfl) rfl (lw_F q601 q467 q469 q83 q471) (by decide +kernel) (by decide +kernel) rfl rfl ⟨Nat.le_of_ble_eq_true rfl, Nat.le_of_ble_eq_true rfl⟩ (Nat.le_of_ble_eq_true rfl) ⟨Nat.le_of_ble_eq_true rfl, Nat.le_of_ble_eq_true rfl⟩ (rd_k ?_)
  rw [show ((i : Int)).toNat = i from rfl]
  refine r_istore (pc := 7) C dX0_isCrossing_7 (by decide) ?_
  refine r_iload (pc := 9) C dX0_isCrossing_9 rfl ?_
  refine r_aload_n (pc := 11) C dX0_isCrossing_11 rfl rfl ?_
  refine r_iload_n (pc := 12) C dX0_isCrossing_12 rfl rfl ?_
  refine r_invF (pc := 13) (ci := 7) (x2 := ⟨"java/lang/CharSequence", "charAt", "(I)C"⟩) 1 C dX0_isCrossing_13 (xs_at (j : Int) h' ⟨by omega, by omega⟩) (gS h') (show vwC[7]? = some (RJ0, TJ0, 4) from rfl) rfl (lw_F q601 q467 q469 q83 q471) (by decide +kernel) (by decide +kernel) rfl rfl ⟨Nat.le_of_ble_eq_true rfl, Nat.le_of_ble_eq_true rfl⟩ (Nat.le_of_ble_eq_true rfl) ⟨Nat.le_of_ble_eq_true rfl, Nat.le_of_ble_eq_true rfl⟩ (rd_k ?_)
  rw [show ((j : Int)).toNat = j from rfl]
  refine r_icmp_neZ (pc := 18) (tgt := 23) C dX0_isCrossing_18 (by decide) (by unfold i32; omega) (by unfold i32; omega) (fun h18 => ?_) (fun h18 => ?_)
  · refine r_iconstZ (pc := 23) C dX0_isCrossing_23 ?_
    refine r_istore (pc := 24) C dX0_isCrossing_24 (by decide) ?_
    exact loop (fun e => h18 (by rw [e])) 0 (Nat.zero_le _) (fun k hk => absurd hk (Nat.not_lt_zero _))
  · refine r_iconstZ (pc := 21) C dX0_isCrossing_21 ?_
    exact r_zret (pc := 22) C hQ dX0_isCrossing_22 (by decide) (Nat.le_of_ble_eq_true rfl) (Nat.le_of_ble_eq_true rfl) (fun G hG => ⟨(by unfold isX; rw [codeB_inj.mp h18]; simp; rfl), hG⟩)
set_option maxHeartbeats 800000 in
theorem xo_crossings {la : Launch} {X : XE} {G0 : Gh} {s s' : Nat} {u v : List Bool} (h : STR G0 s (txt u)) (h' : STR G0 s' (txt v)) (hu : 0 < u.length ∧ u.length ≤ 20) (hv : 0 < v.length ∧ v.length ≤ 20) : MG la X yX0_crossings cX0_crossings 5 (some .int) (rmk 6 0 0 131) [.ref s, .ref s'] (fun G => G = G0) (fun zv G => zv = some (.int (iI (sCross u v))) ∧ G = G0) := by
  refine MG.of (by decide +kernel) (Nat.le_of_ble_eq_true rfl) ?_
  intro Z C hX hL hQ
  subst hX; subst hL
  change WW Z 5 (fun G => G = G0) 0 0 0 [some (.ref s), some (.ref s'), none, none, none] []
  have loop : ∀ i : Nat, i ≤ u.length → ∀ v3 : Option Value, WW Z 5 (fun G => G = G0) 0 0 4 [some (.ref s), some (.ref s'), some (.int (iI (sumN (fun i => sumN (fun j => bi (isX u v i j)) v.length) i))), some (.int (iI (i : Int))), v3] [] := by
    refine loopN _ _ (fun i hi ih v3 => ?_)
    have inner : i < u.length → ∀ j : Nat, j ≤ v.length → WW Z 5 (fun G => G = G0) 0 0 17 [some (.ref s), some (.ref s'), some (.int (iI (sumN (fun i => sumN (fun j => bi (isX u v i j)) v.length) i + sumN (fun j => bi (isX u v i j)) j))), some (.int (iI (i : Int))), some (.int (iI (j : Int)))] [] := by
      intro hil
      refine loopN _ _ (fun j hj ihj => ?_)
      refine r_iload (pc := 17) C dX0_crossings_17 rfl ?_
      refine r_aload_n (pc := 19) C dX0_crossings_19 rfl rfl ?_
      refine r_invF (pc := 20) (ci := 7) (x2 := ⟨"java/lang/CharSequence", "length", "()I"⟩) 0 C dX0_crossings_20 (xs_length h') (gS h') (show vwC[7]? = some (RJ0, TJ0, 4) from rfl) rfl (lw_F q599 q450 q452 q83 q454) (by decide +kernel) (by decide +kernel) rfl rfl ⟨Nat.le_of_ble_eq_true rfl, Nat.le_of_ble_eq_true rfl⟩ (Nat.le_of_ble_eq_true rfl) ⟨Nat.le_of_ble_eq_true rfl, Nat.le_of_ble_eq_true rfl⟩ (rd_k ?_)
      refine r_icmp_geZ (pc := 25) (tgt := 53) C dX0_crossings_25 (by decide) (by unfold i32; omega) (by unfold i32; omega) (fun h25 => ?_) (fun h25 => ?_)
      · refine r_iincZ (pc := 53) C dX0_crossings_53 rfl (by decide) ?_
        refine r_goto (pc := 56) (tgt := 4) C dX0_crossings_56 (by decide) ?_
        have ih2 := ih hil (some (.int (iI (j : Int))))
        rw [show sumN (fun i => sumN (fun j => bi (isX u v i j)) v.length) (i + 1) = sumN (fun i => sumN (fun j => bi (isX u v i j)) v.length) i + sumN (fun j => bi (isX u v i j)) v.length from rfl] at ih2
        rw [show j = v.length by omega] at ih2 ⊢
        exact ih2
      · refine r_iload_n (pc := 28) C dX0_crossings_28 rfl rfl ?_
        refine r_aload_n (pc := 29) C dX0_crossings_29 rfl rfl ?_
        refine r_iload_n (pc := 30) C dX0_crossings_30 rfl rfl ?_
        refine r_aload_n (pc := 31) C dX0_crossings_31 rfl rfl ?_
        refine r_iload (pc := 32) C dX0_crossings_32 rfl ?_
        refine r_invS (pc := 34) 4 C dX0_crossings_34 (xo_isCrossing i j h h' hu hv (by omega) (by omega)) rfl (lw_S q871 q872 q81 q873) (by decide +kernel) rfl rfl ⟨Nat.le_of_ble_eq_true rfl, Nat.le_of_ble_eq_true rfl⟩ (Nat.le_of_ble_eq_true rfl) ⟨Nat.le_of_ble_eq_true rfl, Nat.le_of_ble_eq_true rfl⟩ (rd_k ?_)
        refine r_if_eqZ (pc := 37) (tgt := 44) C dX0_crossings_37 (by decide) (bi_i _) (fun h37 => ?_) (fun h37 => ?_)
        · refine r_iconstZ (pc := 44) C dX0_crossings_44 ?_
          refine r_iaddZ (pc := 45) C dX0_crossings_45 ?_
          refine r_istore_n (pc := 46) C dX0_crossings_46 rfl (by decide) ?_
          refine r_iincZ (pc := 47) C dX0_crossings_47 rfl (by decide) ?_
          refine r_goto (pc := 50) (tgt := 17) C dX0_crossings_50 (by decide) ?_
          have ih2 := ihj (by omega)
          rw [show sumN (fun j => bi (isX u v i j)) (j + 1) = sumN (fun j => bi (isX u v i j)) j + bi (isX u v i j) from rfl, ← Int.add_assoc] at ih2
          first | (rw [bi_0.mp h37] at ih2; exact ih2) | (rw [bi_n0 h37] at ih2; exact ih2)
        · refine r_iconstZ (pc := 40) C dX0_crossings_40 ?_
          refine r_goto (pc := 41) (tgt := 45) C dX0_crossings_41 (by decide) ?_
          refine r_iaddZ (pc := 45) C dX0_crossings_45 ?_
          refine r_istore_n (pc := 46) C dX0_crossings_46 rfl (by decide) ?_
          refine r_iincZ (pc := 47) C dX0_crossings_47 rfl (by decide) ?_
          refine r_goto (pc := 50) (tgt := 17) C dX0_crossings_50 (by decide) ?_
          have ih2 := ihj (by omega)
          rw [show sumN (fun j => bi (isX u v i j)) (j + 1) = sumN (fun j => bi (isX u v i j)) j + bi (isX u v i j) from rfl, ← Int.add_assoc] at ih2
          first | (rw [bi_0.mp h37] at ih2; exact ih2) | (rw [bi_n0 h37] at ih2; exact ih2)
    refine r_iload_n (pc := 4) C dX0_crossings_4 rfl rfl ?_
    refine r_aload_n (pc := 5) C dX0_crossings_5 rfl rfl ?_
    refine r_invF (pc := 6) (ci := 7) (x2 := ⟨"java/lang/CharSequence", "length", "()I"⟩) 0 C dX0_crossings_6 (xs_length h) (gS h) (show vwC[7]? = some (RJ0, TJ0, 4) from rfl) rfl (lw_F q599 q450 q452 q83 q454) (by decide +kernel) (by decide +kernel) rfl rfl ⟨Nat.le_of_ble_eq_true rfl, Nat.le_of_ble_eq_true rfl⟩ (Nat.le_of_ble_eq_true rfl) ⟨Nat.le_of_ble_eq_true rfl, Nat.le_of_ble_eq_true rfl⟩ (rd_k ?_)
    refine r_icmp_geZ (pc := 11) (tgt := 59) C dX0_crossings_11 (by decide) (by unfold i32; omega) (by unfold i32; omega) (fun h11 => ?_) (fun h11 => ?_)
    · refine r_iload_n (pc := 59) C dX0_crossings_59 rfl rfl ?_
      exact r_iret (pc := 60) C hQ dX0_crossings_60 (Nat.le_of_ble_eq_true rfl) (Nat.le_of_ble_eq_true rfl) (fun G hG => ⟨(by rw [show i = u.length by omega]; rfl), hG⟩)
    · refine r_iconstZ (pc := 14) C dX0_crossings_14 ?_
      refine r_istore (pc := 15) C dX0_crossings_15 (by decide) ?_
      have L := inner (by omega) 0 (Nat.zero_le _)
      rw [show sumN (fun j => bi (isX u v i j)) 0 = 0 from rfl, Int.add_zero] at L
      exact L
  refine r_iconstZ (pc := 0) C dX0_crossings_0 ?_
  refine r_istore_n (pc := 1) C dX0_crossings_1 rfl (by decide) ?_
  refine r_iconstZ (pc := 2) C dX0_crossings_2 ?_
  refine r_istore_n (pc := 3) C dX0_crossings_3 rfl (by decide) ?_
  exact loop 0 (Nat.zero_le _) none
set_option maxHeartbeats 800000 in
theorem xo_traceBy {la : Launch} {X : XE} {G0 : Gh} {s t r : Nat} {w : List Bool} (m : Int) (h : SB G0 s t (txt w) r) (hl : w.length ≤ 20000) (hm : 2 ≤ m ∧ m ≤ 1000) : MG la X yX0_traceBy cX0_traceBy 8 (some .int) (rmk 4 0 0 88) [.ref s, .int (iI m)] (fun G => G = G0) (fun zv G => zv = some (.int (iI (trW m w))) ∧ G = G0) := by
  refine MG.of (by decide +kernel) (Nat.le_of_ble_eq_true rfl) ?_
  intro Z C hX hL hQ
  subst hX; subst hL
  change WW Z 8 (fun G => G = G0) 0 0 0 [some (.ref s), some (.int (iI m)), none, none, none, none, none, none] []
  have loop : ∀ i : Nat, i ≤ w.length → ∀ v7 : Option Value, WW Z 8 (fun G => G = G0) 0 0 13 [some (.ref s), some (.int (iI m)), some (.int (iI (trN m w i).1)), some (.int (iI (trN m w i).2.1)), some (.int (iI (trN m w i).2.2.1)), some (.int (iI (trN m w i).2.2.2)), some (.int (iI (i : Int))), v7] [] := by
    refine loopN _ _ (fun i hi ih v7 => ?_)
    obtain ⟨b1, b2', b3, b4⟩ := trN_b hm.1 w i
    have c1 := codeB_b (wl w i)
    have lf : i < w.length → wl w i = false → WW Z 8 (fun G => G = G0) 0 0 42 [some (.ref s), some (.int (iI m)), some (.int (iI (trN m w i).1)), some (.int (iI (trN m w i).2.1)), some (.int (iI (trN m w i).2.2.1)), some (.int (iI (trN m w i).2.2.2)), some (.int (iI (i : Int))), v7] [.int (iI 1)] := by
      intro hil hw
      refine r_istore (pc := 42) C dX0_traceBy_42 (by decide) ?_
      refine r_iload (pc := 44) C dX0_traceBy_44 rfl ?_
      refine r_if_eqZ (pc := 46) (tgt := 57) C dX0_traceBy_46 (by decide) (by unfold i32; omega) (fun h46 => absurd h46 (by omega)) (fun h46 => ?_)
      refine r_iload_n (pc := 49) C dX0_traceBy_49 rfl rfl ?_
      refine r_iload_n (pc := 50) C dX0_traceBy_50 rfl rfl ?_
      refine r_iaddZ (pc := 51) C dX0_traceBy_51 ?_
      refine r_iload_n (pc := 52) C dX0_traceBy_52 rfl rfl ?_
      refine r_iremE (pc := 53) C dX0_traceBy_53 (by unfold i32; omega) (by unfold i32; omega) (by omega) (by omega) ?_
      refine r_goto (pc := 54) (tgt := 58) C dX0_traceBy_54 (by decide) ?_
      refine r_istore_n (pc := 58) C dX0_traceBy_58 rfl (by decide) ?_
      refine r_iload (pc := 59) C dX0_traceBy_59 rfl ?_
      refine r_if_eqZ (pc := 61) (tgt := 74) C dX0_traceBy_61 (by decide) (by unfold i32; omega) (fun h61 => absurd h61 (by omega)) (fun h61 => ?_)
      refine r_iload (pc := 64) C dX0_traceBy_64 rfl ?_
      refine r_iload (pc := 66) C dX0_traceBy_66 rfl ?_
      refine r_iaddZ (pc := 68) C dX0_traceBy_68 ?_
      refine r_iload_n (pc := 69) C dX0_traceBy_69 rfl rfl ?_
      refine r_iremE (pc := 70) C dX0_traceBy_70 (by unfold i32; omega) (by unfold i32; omega) (by omega) (by omega) ?_
      refine r_goto (pc := 71) (tgt := 76) C dX0_traceBy_71 (by decide) ?_
      refine r_istore (pc := 76) C dX0_traceBy_76 (by decide) ?_
      refine r_iload (pc := 78) C dX0_traceBy_78 rfl ?_
      refine r_if_eqZ (pc := 80) (tgt := 87) C dX0_traceBy_80 (by decide) (by unfold i32; omega) (fun h80 => absurd h80 (by omega)) (fun h80 => ?_)
      refine r_iload_n (pc := 83) C dX0_traceBy_83 rfl rfl ?_
      refine r_goto (pc := 84) (tgt := 92) C dX0_traceBy_84 (by decide) ?_
      refine r_istore_n (pc := 92) C dX0_traceBy_92 rfl (by decide) ?_
      refine r_iload (pc := 93) C dX0_traceBy_93 rfl ?_
      refine r_if_eqZ (pc := 95) (tgt := 103) C dX0_traceBy_95 (by decide) (by unfold i32; omega) (fun h95 => absurd h95 (by omega)) (fun h95 => ?_)
      refine r_iload (pc := 98) C dX0_traceBy_98 rfl ?_
      refine r_goto (pc := 100) (tgt := 110) C dX0_traceBy_100 (by decide) ?_
      refine r_istore (pc := 110) C dX0_traceBy_110 (by decide) ?_
      refine r_iincZ (pc := 112) C dX0_traceBy_112 rfl (by decide) ?_
      refine r_goto (pc := 115) (tgt := 13) C dX0_traceBy_115 (by decide) ?_
      have L := ih hil (some (.int (iI 1)))
      rw [show trN m w (i + 1) = trS m (trN m w i) (wl w i) from rfl, hw] at L
      exact L
    have rg : i < w.length → wl w i = true → WW Z 8 (fun G => G = G0) 0 0 42 [some (.ref s), some (.int (iI m)), some (.int (iI (trN m w i).1)), some (.int (iI (trN m w i).2.1)), some (.int (iI (trN m w i).2.2.1)), some (.int (iI (trN m w i).2.2.2)), some (.int (iI (i : Int))), v7] [.int (iI 0)] := by
      intro hil hw
      refine r_istore (pc := 42) C dX0_traceBy_42 (by decide) ?_
      refine r_iload (pc := 44) C dX0_traceBy_44 rfl ?_
      refine r_if_eqZ (pc := 46) (tgt := 57) C dX0_traceBy_46 (by decide) (by unfold i32; omega) (fun h46 => ?_) (fun h46 => absurd h46 (by omega))
      refine r_iload_n (pc := 57) C dX0_traceBy_57 rfl rfl ?_
      refine r_istore_n (pc := 58) C dX0_traceBy_58 rfl (by decide) ?_
      refine r_iload (pc := 59) C dX0_traceBy_59 rfl ?_
      refine r_if_eqZ (pc := 61) (tgt := 74) C dX0_traceBy_61 (by decide) (by unfold i32; omega) (fun h61 => ?_) (fun h61 => absurd h61 (by omega))
      refine r_iload (pc := 74) C dX0_traceBy_74 rfl ?_
      refine r_istore (pc := 76) C dX0_traceBy_76 (by decide) ?_
      refine r_iload (pc := 78) C dX0_traceBy_78 rfl ?_
      refine r_if_eqZ (pc := 80) (tgt := 87) C dX0_traceBy_80 (by decide) (by unfold i32; omega) (fun h80 => ?_) (fun h80 => absurd h80 (by omega))
      refine r_iload_n (pc := 87) C dX0_traceBy_87 rfl rfl ?_
      refine r_iload_n (pc := 88) C dX0_traceBy_88 rfl rfl ?_
      refine r_iaddZ (pc := 89) C dX0_traceBy_89 ?_
      refine r_iload_n (pc := 90) C dX0_traceBy_90 rfl rfl ?_
      refine r_iremE (pc := 91) C dX0_traceBy_91 (by unfold i32; omega) (by unfold i32; omega) (by omega) (by omega) ?_
      refine r_istore_n (pc := 92) C dX0_traceBy_92 rfl (by decide) ?_
      refine r_iload (pc := 93) C dX0_traceBy_93 rfl ?_
      refine r_if_eqZ (pc := 95) (tgt := 103) C dX0_traceBy_95 (by decide) (by unfold i32; omega) (fun h95 => ?_) (fun h95 => absurd h95 (by omega))
      refine r_iload (pc := 103) C dX0_traceBy_103 rfl ?_
      refine r_iload (pc := 105) C dX0_traceBy_105 rfl ?_
      refine r_iaddZ (pc := 107) C dX0_traceBy_107 ?_
      refine r_iload_n (pc := 108) C dX0_traceBy_108 rfl rfl ?_
      refine r_iremE (pc := 109) C dX0_traceBy_109 (by unfold i32; omega) (by unfold i32; omega) (by omega) (by omega) ?_
      refine r_istore (pc := 110) C dX0_traceBy_110 (by decide) ?_
      refine r_iincZ (pc := 112) C dX0_traceBy_112 rfl (by decide) ?_
      refine r_goto (pc := 115) (tgt := 13) C dX0_traceBy_115 (by decide) ?_
      have L := ih hil (some (.int (iI 0)))
      rw [show trN m w (i + 1) = trS m (trN m w i) (wl w i) from rfl, hw] at L
      exact L
    refine r_iload (pc := 13) C dX0_traceBy_13 rfl ?_
    refine r_aload_n (pc := 15) C dX0_traceBy_15 rfl rfl ?_
    refine r_invF (pc := 16) (ci := 9) (x2 := ⟨"java/lang/CharSequence", "length", "()I"⟩) 0 C dX0_traceBy_16 (xb_length h) (gB h) (show vwC[9]? = some (RJ8, TJ8, 4) from rfl) rfl (lw_F q599 q460 q316 q91 q318) (by decide +kernel) (by decide +kernel) rfl rfl ⟨Nat.le_of_ble_eq_true rfl, Nat.le_of_ble_eq_true rfl⟩ (Nat.le_of_ble_eq_true rfl) ⟨Nat.le_of_ble_eq_true rfl, Nat.le_of_ble_eq_true rfl⟩ (rd_k ?_)
    refine r_icmp_geZ (pc := 21) (tgt := 118) C dX0_traceBy_21 (by decide) (by unfold i32; omega) (by unfold i32; omega) (fun h21 => ?_) (fun h21 => ?_)
    · refine r_iload_n (pc := 118) C dX0_traceBy_118 rfl rfl ?_
      refine r_iload (pc := 119) C dX0_traceBy_119 rfl ?_
      refine r_iaddZ (pc := 121) C dX0_traceBy_121 ?_
      refine r_iload_n (pc := 122) C dX0_traceBy_122 rfl rfl ?_
      refine r_iremE (pc := 123) C dX0_traceBy_123 (by unfold i32; omega) (by unfold i32; omega) (by omega) (by omega) ?_
      exact r_iret (pc := 124) C hQ dX0_traceBy_124 (Nat.le_of_ble_eq_true rfl) (Nat.le_of_ble_eq_true rfl) (fun G hG => ⟨(by unfold trW; rw [show w.length = i by omega]), hG⟩)
    · refine r_aload_n (pc := 24) C dX0_traceBy_24 rfl rfl ?_
      refine r_iload (pc := 25) C dX0_traceBy_25 rfl ?_
      refine r_invF (pc := 27) (ci := 9) (x2 := ⟨"java/lang/CharSequence", "charAt", "(I)C"⟩) 1 C dX0_traceBy_27 (xb_at (i : Int) h ⟨by omega, by omega⟩) (gB h) (show vwC[9]? = some (RJ8, TJ8, 4) from rfl) rfl (lw_F q601 q479 q481 q91 q483) (by decide +kernel) (by decide +kernel) rfl rfl ⟨Nat.le_of_ble_eq_true rfl, Nat.le_of_ble_eq_true rfl⟩ (Nat.le_of_ble_eq_true rfl) ⟨Nat.le_of_ble_eq_true rfl, Nat.le_of_ble_eq_true rfl⟩ (rd_k ?_)
      rw [show ((i : Int)).toNat = i from rfl]
      refine r_bipushZ (pc := 32) C dX0_traceBy_32 (by decide) ?_
      refine r_icmp_neZ (pc := 34) (tgt := 41) C dX0_traceBy_34 (by decide) (by unfold i32; omega) (by unfold i32; omega) (fun h34 => ?_) (fun h34 => ?_)
      · refine r_iconstZ (pc := 41) C dX0_traceBy_41 ?_
        first | exact lf (by omega) (codeB_L.mp h34) | exact rg (by omega) (by cases hq : wl w i; exact absurd (codeB_L.mpr hq) h34; rfl)
      · refine r_iconstZ (pc := 37) C dX0_traceBy_37 ?_
        refine r_goto (pc := 38) (tgt := 42) C dX0_traceBy_38 (by decide) ?_
        first | exact lf (by omega) (codeB_L.mp h34) | exact rg (by omega) (by cases hq : wl w i; exact absurd (codeB_L.mpr hq) h34; rfl)
  refine r_iconstZ (pc := 0) C dX0_traceBy_0 ?_
  refine r_istore_n (pc := 1) C dX0_traceBy_1 rfl (by decide) ?_
  refine r_iconstZ (pc := 2) C dX0_traceBy_2 ?_
  refine r_istore_n (pc := 3) C dX0_traceBy_3 rfl (by decide) ?_
  refine r_iconstZ (pc := 4) C dX0_traceBy_4 ?_
  refine r_istore (pc := 5) C dX0_traceBy_5 (by decide) ?_
  refine r_iconstZ (pc := 7) C dX0_traceBy_7 ?_
  refine r_istore (pc := 8) C dX0_traceBy_8 (by decide) ?_
  refine r_iconstZ (pc := 10) C dX0_traceBy_10 ?_
  refine r_istore (pc := 11) C dX0_traceBy_11 (by decide) ?_
  exact loop 0 (Nat.zero_le _) none
set_option maxHeartbeats 800000 in
theorem xo_changed {la : Launch} {X : XE} {G0 : Gh} {s : Nat} {w : List Bool} (k : Int) (h : STR G0 s (txt w)) (hw : 0 < w.length ∧ w.length ≤ 20) (hk : 0 ≤ k ∧ k ≤ 2) : MG la X yX0_changed cX0_changed 2 (some (.object "java/lang/String")) (rmk 8 4 48 194) [.ref s, .int (iI k)] (fun G => G = G0) (fun v G => ∃ x, v = some (.ref x) ∧ STR G x (txt (wChanged w k)) ∧ FR [9] G0 G) := by
  refine MG.of (by decide +kernel) (Nat.le_of_ble_eq_true rfl) ?_
  intro Z C hX hL hQ
  subst hX; subst hL
  change WW Z 2 (fun G => G = G0) 0 0 0 [some (.ref s), some (.int (iI k))] []
  have hk3 : k = 0 ∨ k = 1 ∨ k = 2 := by omega
  rcases hk3 with rfl | rfl | rfl
  · skip
    refine r_iload_n (pc := 0) C dX0_changed_0 rfl rfl ?_
    refine r_lookup (pc := 1) (off := 27) (tgt := 28) C dX0_changed_1 (by decide) (by decide) (by decide) ?_
    refine r_aload_n (pc := 28) C dX0_changed_28 rfl rfl ?_
    refine r_invS (pc := 29) 1 C dX0_changed_29 (xw_back h hw) rfl (lw_S q757 q758 q100 q759) (by decide +kernel) rfl rfl ⟨Nat.le_of_ble_eq_true rfl, Nat.le_of_ble_eq_true rfl⟩ (Nat.le_of_ble_eq_true rfl) ⟨(by first | exact Nat.le_of_ble_eq_true rfl | (dsimp only [rmk]; omega) | omega), (by first | exact Nat.le_of_ble_eq_true rfl | (dsimp only [rmk]; omega) | omega)⟩ (fun v29 G29 h29 => ?_)
    obtain ⟨x, rfl, q1, q2⟩ := h29
    refine r_goto (pc := 32) (tgt := 46) C dX0_changed_32 (by decide) ?_
    exact r_aret (pc := 46) C hQ dX0_changed_46 (by first | exact Or.inl ⟨_, rfl⟩ | exact Or.inr ⟨_, rfl⟩) (by first | exact Or.inr ⟨_, rfl⟩ | exact Or.inl rfl) (by first | exact Nat.le_of_ble_eq_true rfl | (dsimp only [rmk]; omega) | omega) (by first | exact Nat.le_of_ble_eq_true rfl | (dsimp only [rmk]; omega) | omega) (fun G hG => (by cases hG; exact ⟨x, rfl, q1, q2⟩))
  · skip
    refine r_iload_n (pc := 0) C dX0_changed_0 rfl rfl ?_
    refine r_lookup (pc := 1) (off := 34) (tgt := 35) C dX0_changed_1 (by decide) (by decide) (by decide) ?_
    refine r_aload_n (pc := 35) C dX0_changed_35 rfl rfl ?_
    refine r_invS (pc := 36) 1 C dX0_changed_36 (xw_mirror h hw) rfl (lw_S q775 q776 q100 q777) (by decide +kernel) rfl rfl ⟨Nat.le_of_ble_eq_true rfl, Nat.le_of_ble_eq_true rfl⟩ (Nat.le_of_ble_eq_true rfl) ⟨(by first | exact Nat.le_of_ble_eq_true rfl | (dsimp only [rmk]; omega) | omega), (by first | exact Nat.le_of_ble_eq_true rfl | (dsimp only [rmk]; omega) | omega)⟩ (fun v36 G36 h36 => ?_)
    obtain ⟨x, rfl, q1, q2⟩ := h36
    refine r_goto (pc := 39) (tgt := 46) C dX0_changed_39 (by decide) ?_
    exact r_aret (pc := 46) C hQ dX0_changed_46 (by first | exact Or.inl ⟨_, rfl⟩ | exact Or.inr ⟨_, rfl⟩) (by first | exact Or.inr ⟨_, rfl⟩ | exact Or.inl rfl) (by first | exact Nat.le_of_ble_eq_true rfl | (dsimp only [rmk]; omega) | omega) (by first | exact Nat.le_of_ble_eq_true rfl | (dsimp only [rmk]; omega) | omega) (fun G hG => (by cases hG; exact ⟨x, rfl, q1, q2⟩))
  · skip
    refine r_iload_n (pc := 0) C dX0_changed_0 rfl rfl ?_
    refine r_lookup (pc := 1) (off := 41) (tgt := 42) C dX0_changed_1 (by decide) (by decide) (by decide) ?_
    refine r_aload_n (pc := 42) C dX0_changed_42 rfl rfl ?_
    refine r_invS (pc := 43) 1 C dX0_changed_43 (xw_leastTurn h hw) rfl (lw_S q893 q768 q100 q769) (by decide +kernel) rfl rfl ⟨Nat.le_of_ble_eq_true rfl, Nat.le_of_ble_eq_true rfl⟩ (Nat.le_of_ble_eq_true rfl) ⟨(by first | exact Nat.le_of_ble_eq_true rfl | (dsimp only [rmk]; omega) | omega), (by first | exact Nat.le_of_ble_eq_true rfl | (dsimp only [rmk]; omega) | omega)⟩ (fun v43 G43 h43 => ?_)
    obtain ⟨x, rfl, q1, q2⟩ := h43
    exact r_aret (pc := 46) C hQ dX0_changed_46 (by first | exact Or.inl ⟨_, rfl⟩ | exact Or.inr ⟨_, rfl⟩) (by first | exact Or.inr ⟨_, rfl⟩ | exact Or.inl rfl) (by first | exact Nat.le_of_ble_eq_true rfl | (dsimp only [rmk]; omega) | omega) (by first | exact Nat.le_of_ble_eq_true rfl | (dsimp only [rmk]; omega) | omega) (fun G hG => (by cases hG; exact ⟨x, rfl, q1, q2⟩))
set_option maxHeartbeats 800000 in
theorem xo_cutTo {la : Launch} {X : XE} {G0 : Gh} (p q : Nat) (hp : 1 ≤ p ∧ p ≤ 99) (hq : 1 ≤ q ∧ q ≤ 99) : MG la X yX0_cutTo cX0_cutTo 6 (some (.object "java/lang/String")) (rmk 7 300 2000 171) [.int (iI (p : Int)), .int (iI (q : Int))] (fun G => G = G0) (fun v G => ∃ x, v = some (.ref x) ∧ STR G x (txt (cutW p q)) ∧ FR [9] G0 G) := by
  refine MG.of (by decide +kernel) (Nat.le_of_ble_eq_true rfl) ?_
  intro Z C hX hL hQ
  subst hX; subst hL
  change WW Z 6 (fun G => G = G0) 0 0 0 [some (.int (iI (p : Int))), some (.int (iI (q : Int))), none, none, none, none] []
  have hlen := cutW_le p q hp.2 hq.2
  have loop : ∀ (d x y : Nat) (u : List Bool) (a m : Nat) (v5 : Option Value), x + y ≤ d → 1 ≤ x ∧ x ≤ 99 → 1 ≤ y ∧ y ≤ 99 → cutW p q = u ++ cutW x y → (m = 20 ∨ m ≤ 2 * u.length + 2) → WW Z 6 (fun G => SB G a 9 (txt u) m ∧ FR [9] G0 G) (2 + u.length) (4 + 2 * m) 15 [some (.int (iI (p : Int))), some (.int (iI (q : Int))), some (.ref a), some (.int (iI (x : Int))), some (.int (iI (y : Int))), v5] [] := by
    intro d
    induction d with
    | zero => intro x y u a m v5 h1 h2; omega
    | succ d ih =>
      intro x y u a m v5 h1 h2 h3 h4 h5
      refine ww_all (fun G1 hG1 => ?_)
      obtain ⟨q1, q2⟩ := hG1
      have hul : u.length ≤ 198 := by rw [h4, List.length_append] at hlen; omega
      have more : y < x → WW Z 6 (fun G => G = G1) (2 + u.length) (4 + 2 * m) 32 [some (.int (iI (p : Int))), some (.int (iI (q : Int))), some (.ref a), some (.int (iI (x : Int))), some (.int (iI (y : Int))), v5] [.int (iI 1)] := by
        intro hxy
        have e : cutW p q = (u ++ [true]) ++ cutW (x - y) y := by rw [h4, cutW_eq h2.1 h3.1, if_neg (by omega), if_pos hxy, List.append_assoc]; rfl
        have hul2 : u.length + 1 ≤ 198 := by rw [e, List.length_append, List.length_append] at hlen; simp at hlen; omega
        refine r_istore (pc := 32) C dX0_cutTo_32 (by decide) ?_
        refine r_aload_n (pc := 34) C dX0_cutTo_34 rfl rfl ?_
        refine r_iload (pc := 35) C dX0_cutTo_35 rfl ?_
        refine r_if_eqZ (pc := 37) (tgt := 45) C dX0_cutTo_37 (by decide) (by unfold i32; omega) (fun h37 => absurd h37 (by omega)) (fun h37 => ?_)
        refine r_bipushZ (pc := 40) C dX0_cutTo_40 (by decide) ?_
        refine r_goto (pc := 42) (tgt := 47) C dX0_cutTo_42 (by decide) ?_
        rw [show (82 : Int) = codeB true from rfl]
        refine r_appA (pc := 47) (c0 := 4) true q1 (by decide) (by omega) ⟨Nat.le_of_ble_eq_true rfl, Nat.le_of_ble_eq_true rfl⟩ (Nat.le_of_ble_eq_true rfl) ⟨by dsimp only [rmk]; omega, by dsimp only [rmk]; omega, fun he => by dsimp only [rmk]; omega⟩ C dX0_cutTo_47 rfl (lw_V q323 q324 q325 q91 q326) (fun G47 m47 k47a k47b k47c => ?_)
        refine r_pop (pc := 50) C dX0_cutTo_50 rfl ?_
        refine r_iload_n (pc := 51) C dX0_cutTo_51 rfl rfl ?_
        refine r_iload (pc := 52) C dX0_cutTo_52 rfl ?_
        refine r_if_eqZ (pc := 54) (tgt := 62) C dX0_cutTo_54 (by decide) (by unfold i32; omega) (fun h54 => absurd h54 (by omega)) (fun h54 => ?_)
        refine r_iload (pc := 57) C dX0_cutTo_57 rfl ?_
        refine r_goto (pc := 59) (tgt := 63) C dX0_cutTo_59 (by decide) ?_
        refine r_isubZ (pc := 63) C dX0_cutTo_63 ?_
        rw [show ((x : Int) - (y : Int)) = ((x - y : Nat) : Int) by omega]
        refine r_istore_n (pc := 64) C dX0_cutTo_64 rfl (by decide) ?_
        refine r_iload (pc := 65) C dX0_cutTo_65 rfl ?_
        refine r_iload (pc := 67) C dX0_cutTo_67 rfl ?_
        refine r_if_eqZ (pc := 69) (tgt := 76) C dX0_cutTo_69 (by decide) (by unfold i32; omega) (fun h69 => absurd h69 (by omega)) (fun h69 => ?_)
        refine r_iconstZ (pc := 72) C dX0_cutTo_72 ?_
        refine r_goto (pc := 73) (tgt := 77) C dX0_cutTo_73 (by decide) ?_
        refine r_isubZ (pc := 77) C dX0_cutTo_77 ?_
        rw [Int.sub_zero]
        refine r_istore (pc := 78) C dX0_cutTo_78 (by decide) ?_
        refine r_goto (pc := 80) (tgt := 15) C dX0_cutTo_80 (by decide) ?_
        have L := ih (x - y) y (u ++ [true]) a m47 (some (.int (iI 1))) (by omega) ⟨by omega, by omega⟩ h3 e (by simp; omega)
        rw [show (u ++ [true]).length = u.length + 1 by simp, ← Nat.add_assoc] at L
        exact ww_to (fun G hG => by rw [hG]; exact ⟨k47a, q2.tr k47c⟩) L
      have less : ¬ y < x → x ≠ y → WW Z 6 (fun G => G = G1) (2 + u.length) (4 + 2 * m) 32 [some (.int (iI (p : Int))), some (.int (iI (q : Int))), some (.ref a), some (.int (iI (x : Int))), some (.int (iI (y : Int))), v5] [.int (iI 0)] := by
        intro hxy hne
        have e : cutW p q = (u ++ [false]) ++ cutW x (y - x) := by rw [h4, cutW_eq h2.1 h3.1, if_neg hne, if_neg hxy, List.append_assoc]; rfl
        have hul2 : u.length + 1 ≤ 198 := by rw [e, List.length_append, List.length_append] at hlen; simp at hlen; omega
        refine r_istore (pc := 32) C dX0_cutTo_32 (by decide) ?_
        refine r_aload_n (pc := 34) C dX0_cutTo_34 rfl rfl ?_
        refine r_iload (pc := 35) C dX0_cutTo_35 rfl ?_
        refine r_if_eqZ (pc := 37) (tgt := 45) C dX0_cutTo_37 (by decide) (by unfold i32; omega) (fun h37 => ?_) (fun h37 => absurd h37 (by omega))
        refine r_bipushZ (pc := 45) C dX0_cutTo_45 (by decide) ?_
        rw [show (76 : Int) = codeB false from rfl]
        refine r_appA (pc := 47) (c0 := 4) false q1 (by decide) (by omega) ⟨Nat.le_of_ble_eq_true rfl, Nat.le_of_ble_eq_true rfl⟩ (Nat.le_of_ble_eq_true rfl) ⟨by dsimp only [rmk]; omega, by dsimp only [rmk]; omega, fun he => by dsimp only [rmk]; omega⟩ C dX0_cutTo_47 rfl (lw_V q323 q324 q325 q91 q326) (fun G47 m47 k47a k47b k47c => ?_)
        refine r_pop (pc := 50) C dX0_cutTo_50 rfl ?_
        refine r_iload_n (pc := 51) C dX0_cutTo_51 rfl rfl ?_
        refine r_iload (pc := 52) C dX0_cutTo_52 rfl ?_
        refine r_if_eqZ (pc := 54) (tgt := 62) C dX0_cutTo_54 (by decide) (by unfold i32; omega) (fun h54 => ?_) (fun h54 => absurd h54 (by omega))
        refine r_iconstZ (pc := 62) C dX0_cutTo_62 ?_
        refine r_isubZ (pc := 63) C dX0_cutTo_63 ?_
        rw [Int.sub_zero]
        refine r_istore_n (pc := 64) C dX0_cutTo_64 rfl (by decide) ?_
        refine r_iload (pc := 65) C dX0_cutTo_65 rfl ?_
        refine r_iload (pc := 67) C dX0_cutTo_67 rfl ?_
        refine r_if_eqZ (pc := 69) (tgt := 76) C dX0_cutTo_69 (by decide) (by unfold i32; omega) (fun h69 => ?_) (fun h69 => absurd h69 (by omega))
        refine r_iload_n (pc := 76) C dX0_cutTo_76 rfl rfl ?_
        refine r_isubZ (pc := 77) C dX0_cutTo_77 ?_
        rw [show ((y : Int) - (x : Int)) = ((y - x : Nat) : Int) by omega]
        refine r_istore (pc := 78) C dX0_cutTo_78 (by decide) ?_
        refine r_goto (pc := 80) (tgt := 15) C dX0_cutTo_80 (by decide) ?_
        have L := ih x (y - x) (u ++ [false]) a m47 (some (.int (iI 0))) (by omega) h2 ⟨by omega, by omega⟩ e (by simp; omega)
        rw [show (u ++ [false]).length = u.length + 1 by simp, ← Nat.add_assoc] at L
        exact ww_to (fun G hG => by rw [hG]; exact ⟨k47a, q2.tr k47c⟩) L
      refine r_iload_n (pc := 15) C dX0_cutTo_15 rfl rfl ?_
      refine r_iload (pc := 16) C dX0_cutTo_16 rfl ?_
      refine r_icmp_eqZ (pc := 18) (tgt := 83) C dX0_cutTo_18 (by decide) (by unfold i32; omega) (by unfold i32; omega) (fun h18 => ?_) (fun h18 => ?_)
      · refine r_aload_n (pc := 83) C dX0_cutTo_83 rfl rfl ?_
        refine r_invV (pc := 84) (ci := 9) 0 C dX0_cutTo_84 (xb_toString q1 (by decide)) (gB q1) (show vwC[9]? = some (RJ8, TJ8, 4) from rfl) rfl (lw_V q523 q524 q525 q91 q526) (by decide +kernel) rfl rfl ⟨Nat.le_of_ble_eq_true rfl, Nat.le_of_ble_eq_true rfl⟩ (Nat.le_of_ble_eq_true rfl) ⟨by dsimp only [rmk]; omega, by dsimp only [rmk]; omega⟩ (fun v84 G84 h84 => ?_)
        obtain ⟨z, rfl, r1, r2⟩ := h84
        exact r_aret (pc := 87) C hQ dX0_cutTo_87 (by first | exact Or.inl ⟨_, rfl⟩ | exact Or.inr ⟨_, rfl⟩) (by first | exact Or.inr ⟨_, rfl⟩ | exact Or.inl rfl) (by dsimp only [rmk]; omega) (by dsimp only [rmk]; omega) (fun G hG => (by cases hG; have e : u = cutW p q := (by rw [h4, cutW_eq h2.1 h3.1, if_pos (by omega), List.append_nil]); rw [← e]; exact ⟨z, rfl, r1, q2.tr (r2.nil _)⟩))
      · refine r_iload_n (pc := 21) C dX0_cutTo_21 rfl rfl ?_
        refine r_iload (pc := 22) C dX0_cutTo_22 rfl ?_
        refine r_icmp_leZ (pc := 24) (tgt := 31) C dX0_cutTo_24 (by decide) (by unfold i32; omega) (by unfold i32; omega) (fun h24 => ?_) (fun h24 => ?_)
        · refine r_iconstZ (pc := 31) C dX0_cutTo_31 ?_
          first | exact more (by omega) | exact less (by omega) (by omega)
        · refine r_iconstZ (pc := 27) C dX0_cutTo_27 ?_
          refine r_goto (pc := 28) (tgt := 32) C dX0_cutTo_28 (by decide) ?_
          first | exact more (by omega) | exact less (by omega) (by omega)
  refine r_newE (pc := 0) (ci := 9) (fs := [.null, .int (iI 0), .int (iI 0), .int (iI 0)]) 9 C dX0_cutTo_0 (show vwC[9]? = some (RJ8, TJ8, 4) from rfl) in_J8 tyJ8 tyJ8_ok q244 q245 q91 (by decide +kernel) (by first | exact Nat.le_of_ble_eq_true rfl | (dsimp only [rmk]; omega) | omega) (by first | exact Nat.le_of_ble_eq_true rfl | (dsimp only [rmk]; omega) | omega) (fun a0 n0 => ?_)
  refine r_dup (pc := 3) C dX0_cutTo_3 rfl ?_
  refine r_bipushZ (pc := 4) C dX0_cutTo_4 (by decide) ?_
  refine r_invI (pc := 6) 1 C dX0_cutTo_6 (jb_init 20 (gup_eq _ _ _) (by decide) (by omega)) rfl (lw_meth q248) q91 q246 q247 rfl (by decide +kernel) rfl rfl ⟨Nat.le_of_ble_eq_true rfl, Nat.le_of_ble_eq_true rfl⟩ (Nat.le_of_ble_eq_true rfl) ⟨(by first | exact Nat.le_of_ble_eq_true rfl | (dsimp only [rmk]; omega) | omega), (by first | exact Nat.le_of_ble_eq_true rfl | (dsimp only [rmk]; omega) | omega)⟩ (fun v6 G6 h6 => ?_)
  obtain ⟨rfl, q1, q2⟩ := h6
  have q3 := (FR.new (ts := [9]) n0).tr q2
  refine r_astore_n (pc := 9) C dX0_cutTo_9 rfl (by decide) ?_
  refine r_iload_n (pc := 10) C dX0_cutTo_10 rfl rfl ?_
  refine r_istore_n (pc := 11) C dX0_cutTo_11 rfl (by decide) ?_
  refine r_iload_n (pc := 12) C dX0_cutTo_12 rfl rfl ?_
  refine r_istore (pc := 13) C dX0_cutTo_13 (by decide) ?_
  refine ww_wide (n' := 2) (s' := 4 + 2 * 20) (by dsimp only [rmk]; omega) (by dsimp only [rmk]; omega) ?_
  exact ww_to (fun G hG => by rw [hG]; exact ⟨q1, q3⟩) (loop (p + q) p q [] a0 20 none (Nat.le_refl _) hp hq rfl (Or.inl rfl))
set_option maxHeartbeats 800000 in
theorem xo_draw {la : Launch} {X : XE} {G0 : Gh} {xh : Nat} {A : Nat → Nat} {rdn rv dr : Int} (hx : XOB G0 xh A rdn rv dr) (hd : 0 ≤ dr ∧ dr < 2147483648) : MG la X yX0_draw cX0_draw 3 (some (.object "java/lang/String")) (rmk 6 4 24 151) [.ref xh] (fun G => G = G0) (fun v G => ∃ x, v = some (.ref x) ∧ STR G x (txt (dW dr)) ∧ XOB G xh A rdn rv (lcgN dr 8) ∧ FR [1, 9] G0 G) := by
  refine MG.of (by decide +kernel) (Nat.le_of_ble_eq_true rfl) ?_
  intro Z C hX hL hQ
  subst hX; subst hL
  change WW Z 3 (fun G => G = G0) 0 0 0 [some (.ref xh), none, none] []
  have loop : ∀ (a i : Nat), i ≤ 8 → WW Z 3 (fun G => SB G a 9 (txt ((dW dr).take i)) 8 ∧ XOB G xh A rdn rv (lcgN dr i) ∧ FR [1, 9] G0 G) 2 12 12 [some (.ref xh), some (.ref a), some (.int (iI (i : Int)))] [] := by
    intro a
    refine loopN _ _ (fun i hi ih => ?_)
    refine ww_all (fun G1 hG1 => ?_)
    obtain ⟨q1, q2, q3⟩ := hG1
    have hb := lcgN_b hd i
    have hb2 := lcg_b (lcgN dr i)
    have app : ∀ (b : Bool), b = dB (lcgN dr (i + 1)) → ∀ G2 : Gh, XOB G2 xh A rdn rv (lcgN dr (i + 1)) → SB G2 a 9 (txt ((dW dr).take i)) 8 → FR [1, 9] G0 G2 → i < 8 → WW Z 3 (fun G => G = G2) 2 12 63 [some (.ref xh), some (.ref a), some (.int (iI (i : Int)))] [.int (iI (codeB b)), .ref a] := by
      intro b hbb G2 x2 q4 f3 hi8
      refine r_invV (pc := 63) (ci := 9) 1 C dX0_draw_63 (xb_app b q4 (by decide) (by rw [List.length_take, dW_len]; omega)) (gB q4) (show vwC[9]? = some (RJ8, TJ8, 4) from rfl) rfl (lw_V q323 q324 q325 q91 q326) (by decide +kernel) rfl rfl ⟨Nat.le_of_ble_eq_true rfl, Nat.le_of_ble_eq_true rfl⟩ (Nat.le_of_ble_eq_true rfl) ⟨(by first | exact Nat.le_of_ble_eq_true rfl | (dsimp only [rmk]; omega) | omega), (by first | exact Nat.le_of_ble_eq_true rfl | (dsimp only [rmk]; omega) | omega)⟩ (fun v63 G63 h63 => ?_)
      obtain ⟨rfl, r1, r2⟩ := h63
      have e := take_push (w := dW dr) (k := i) (by rw [dW_len]; omega)
      rw [dW_at dr hi8, ← hbb] at e
      rw [← e] at r1
      refine r_pop (pc := 66) C dX0_draw_66 rfl ?_
      refine r_iincZ (pc := 67) C dX0_draw_67 rfl (by decide) ?_
      refine r_goto (pc := 70) (tgt := 12) C dX0_draw_70 (by decide) ?_
      exact ww_to (fun G hG => by rw [hG]; exact ⟨r1, x2.fr r2 (by decide) (by decide), f3.tr (r2.wk (us := [1, 9]) (by decide))⟩) (ih (by omega))
    have lst : false = dB (lcgN dr (i + 1)) → ∀ G2 : Gh, XOB G2 xh A rdn rv (lcgN dr (i + 1)) → SB G2 a 9 (txt ((dW dr).take i)) 8 → FR [1, 9] G0 G2 → i < 8 → WW Z 3 (fun G => G = G2) 2 12 61 [some (.ref xh), some (.ref a), some (.int (iI (i : Int)))] [.ref a] := by
      intro hbb G2 x2 q4 f3 hi8
      refine r_bipushZ (pc := 61) C dX0_draw_61 (by decide) ?_
      first | exact app false hbb G2 x2 q4 f3 hi8 | exact app true hbb G2 x2 q4 f3 hi8
    have rst : true = dB (lcgN dr (i + 1)) → ∀ G2 : Gh, XOB G2 xh A rdn rv (lcgN dr (i + 1)) → SB G2 a 9 (txt ((dW dr).take i)) 8 → FR [1, 9] G0 G2 → i < 8 → WW Z 3 (fun G => G = G2) 2 12 56 [some (.ref xh), some (.ref a), some (.int (iI (i : Int)))] [.ref a] := by
      intro hbb G2 x2 q4 f3 hi8
      refine r_bipushZ (pc := 56) C dX0_draw_56 (by decide) ?_
      refine r_goto (pc := 58) (tgt := 63) C dX0_draw_58 (by decide) ?_
      first | exact app false hbb G2 x2 q4 f3 hi8 | exact app true hbb G2 x2 q4 f3 hi8
    refine r_iload_n (pc := 12) C dX0_draw_12 rfl rfl ?_
    refine r_bipushZ (pc := 13) C dX0_draw_13 (by decide) ?_
    refine r_icmp_geZ (pc := 15) (tgt := 73) C dX0_draw_15 (by decide) (by unfold i32; omega) (by unfold i32; omega) (fun h15 => ?_) (fun h15 => ?_)
    · refine r_aload_n (pc := 73) C dX0_draw_73 rfl rfl ?_
      refine r_invV (pc := 74) (ci := 9) 0 C dX0_draw_74 (xb_toString q1 (by decide)) (gB q1) (show vwC[9]? = some (RJ8, TJ8, 4) from rfl) rfl (lw_V q523 q524 q525 q91 q526) (by decide +kernel) rfl rfl ⟨Nat.le_of_ble_eq_true rfl, Nat.le_of_ble_eq_true rfl⟩ (Nat.le_of_ble_eq_true rfl) ⟨by dsimp only [rmk]; omega, by dsimp only [rmk]; rw [List.length_take, dW_len]; omega⟩ (fun v74 G74 h74 => ?_)
      obtain ⟨z, rfl, r1, r2⟩ := h74
      exact r_aret (pc := 77) C hQ dX0_draw_77 (by first | exact Or.inl ⟨_, rfl⟩ | exact Or.inr ⟨_, rfl⟩) (by first | exact Or.inr ⟨_, rfl⟩ | exact Or.inl rfl) (by dsimp only [rmk]; omega) (by dsimp only [rmk]; rw [List.length_take, dW_len]; omega) (fun G hG => (by cases hG; rw [List.take_of_length_le (by rw [dW_len]; omega)] at r1; rw [show i = 8 by omega] at q2; exact ⟨z, rfl, r1, q2.fr r2 (by decide) (by decide), q3.tr (r2.nil _)⟩))
    · refine r_aload_n (pc := 18) C dX0_draw_18 rfl rfl ?_
      refine r_ldc2Z (pc := 19) (a := 1103515245) C dX0_draw_19 rfl q1122 (by decide) ?_
      refine r_aload_n (pc := 22) C dX0_draw_22 rfl rfl ?_
      refine r_get (pc := 23) (k := 9) (ci := 0) C dX0_draw_23 (g1 q2.1) (show vwC[0]? = some (RX0, TX0, 10) from rfl) in_X0 (by decide) (C.t _ q285) (fun _ h => h) rfl ?_
      refine r_lmulZ (pc := 26) C dX0_draw_26 ?_
      refine r_ldc2Z (pc := 27) (a := 12345) C dX0_draw_27 rfl q1123 (by decide) ?_
      refine r_laddZ (pc := 30) C dX0_draw_30 ?_
      refine r_ldc2Z (pc := 31) (a := 2147483647) C dX0_draw_31 rfl q1124 (by decide) ?_
      refine r_landM (pc := 34) C dX0_draw_34 (by omega) (by omega) ?_
      rw [show (1103515245 * lcgN dr i + 12345) % 2147483648 = lcgN dr (i + 1) from rfl]
      refine r_put (pc := 35) (k := 9) (ci := 0) (ty := .long) C dX0_draw_35 (Γ' := fun G => G = gup G1 xh (1, .inl (0, xfs A rdn rv (lcgN dr (i + 1))))) (fun G hG => ⟨1, by decide, by rw [hG]; exact q2.1, by rw [hG]; rfl⟩) (show vwC[0]? = some (RX0, TX0, 10) from rfl) in_X0 tyX0 tyX0_ok nmX0 (by decide) (C.t _ q285) (fun _ h => h) rfl (by decide +kernel) rfl rfl (Nat.le_of_ble_eq_true rfl) ?_
      have f1 : FR [1] G1 (gup G1 xh (1, .inl (0, xfs A rdn rv (lcgN dr (i + 1))))) := FR.up q2.1 (by decide) 1
      have x2 : XOB (gup G1 xh (1, .inl (0, xfs A rdn rv (lcgN dr (i + 1))))) xh A rdn rv (lcgN dr (i + 1)) := ⟨gup_eq _ _ _, q2.2.1.fr f1 (by decide), q2.2.2.1.fr f1 (by decide), q2.2.2.2.fr f1 (by decide)⟩
      have q4 := q1.fr f1 (by decide)
      have f3 := q3.tr (f1.wk (us := [1, 9]) (by decide))
      generalize gup G1 xh (1, .inl (0, xfs A rdn rv (lcgN dr (i + 1)))) = G2 at x2 q4 f3 ⊢
      refine r_aload_n (pc := 38) C dX0_draw_38 rfl rfl ?_
      refine r_aload_n (pc := 39) C dX0_draw_39 rfl rfl ?_
      refine r_get (pc := 40) (k := 9) (ci := 0) C dX0_draw_40 (g1 x2.1) (show vwC[0]? = some (RX0, TX0, 10) from rfl) in_X0 (by decide) (C.t _ q285) (fun _ h => h) rfl ?_
      refine r_ldc2Z (pc := 43) (a := 65536) C dX0_draw_43 rfl q1125 (by decide) ?_
      refine r_ldivZ (pc := 46) C dX0_draw_46 (by unfold i64; have := lcgN_b hd (i + 1); omega) (by unfold i64; omega) (by omega) ?_
      have hb3 := lcgN_b hd (i + 1)
      rw [Int.tdiv_eq_ediv_of_nonneg hb3.1]
      refine r_ldc2Z (pc := 47) (a := 2) C dX0_draw_47 rfl q1126 (by decide) ?_
      refine r_lremZ (pc := 50) C dX0_draw_50 (by unfold i64; omega) (by unfold i64; omega) (by omega) ?_
      rw [Int.tmod_eq_emod_of_nonneg (by omega)]
      refine r_lconst (pc := 51) (v := lI 1) C dX0_draw_51 rfl ?_
      refine r_lcmp (pc := 52) C dX0_draw_52 ?_
      refine r_cmp_ne (pc := 53) (tgt := 61) C dX0_draw_53 (by decide) (by unfold i64; omega) (by unfold i64; omega) (fun h53 => ?_) (fun h53 => ?_)
      · exact lst (by unfold dB; exact (decide_eq_false h53).symm) G2 x2 q4 f3 (by omega)
      · exact rst (by unfold dB; exact (decide_eq_true h53).symm) G2 x2 q4 f3 (by omega)
  refine r_newE (pc := 0) (ci := 9) (fs := [.null, .int (iI 0), .int (iI 0), .int (iI 0)]) 9 C dX0_draw_0 (show vwC[9]? = some (RJ8, TJ8, 4) from rfl) in_J8 tyJ8 tyJ8_ok q244 q245 q91 (by decide +kernel) (by first | exact Nat.le_of_ble_eq_true rfl | (dsimp only [rmk]; omega) | omega) (by first | exact Nat.le_of_ble_eq_true rfl | (dsimp only [rmk]; omega) | omega) (fun a0 n0 => ?_)
  refine r_dup (pc := 3) C dX0_draw_3 rfl ?_
  refine r_bipushZ (pc := 4) C dX0_draw_4 (by decide) ?_
  refine r_invI (pc := 6) 1 C dX0_draw_6 (jb_init 8 (gup_eq _ _ _) (by decide) (by omega)) rfl (lw_meth q248) q91 q246 q247 rfl (by decide +kernel) rfl rfl ⟨Nat.le_of_ble_eq_true rfl, Nat.le_of_ble_eq_true rfl⟩ (Nat.le_of_ble_eq_true rfl) ⟨(by first | exact Nat.le_of_ble_eq_true rfl | (dsimp only [rmk]; omega) | omega), (by first | exact Nat.le_of_ble_eq_true rfl | (dsimp only [rmk]; omega) | omega)⟩ (fun v6 G6 h6 => ?_)
  obtain ⟨rfl, q1, q2⟩ := h6
  have q3 := (FR.new (ts := [9]) n0).tr q2
  refine r_astore_n (pc := 9) C dX0_draw_9 rfl (by decide) ?_
  refine r_iconstZ (pc := 10) C dX0_draw_10 ?_
  refine r_istore_n (pc := 11) C dX0_draw_11 rfl (by decide) ?_
  refine ww_wide (n' := 2) (s' := 12) (by dsimp only [rmk]; omega) (by dsimp only [rmk]; omega) ?_
  exact ww_to (fun G hG => by rw [hG]; exact ⟨q1, hx.fr q3 (by decide) (by decide), q3.wk (by decide)⟩) (loop a0 0 (Nat.zero_le _))
set_option maxHeartbeats 800000 in
theorem xm_nearer {la : Launch} {X : XE} {G0 : Gh} {x t : Nat} {f : Fm} {c n b m : Int} (d : Int) (h : FRM G0 x t f c n b m) (hI : FlI d f) : MG la X yX6_nearer cX6_nearer 3 (some (.object "RiverWords$Form")) (rmk 2 1 7 43) [.ref x] (fun G => G = G0) (fun v G => ∃ e, v = some (.ref e) ∧ FRM G e 9 (flS f) NON 0 0 0 ∧ FR [] G0 G) := by
  refine MG.of (by decide +kernel) (Nat.le_of_ble_eq_true rfl) ?_
  intro Z C hX hL hQ
  subst hX; subst hL
  change WW Z 3 (fun G => G = G0) 0 0 0 [some (.ref x), none, none] []
  have hab := hI.abs
  obtain ⟨-, i1, i2, i3⟩ := id hI
  have rest : ∀ (s : Int), s = flT f → WW Z 3 (fun G => G = G0) 0 0 32 [some (.ref x), none, none] [.int (iI s)] := by
    intro s es
    subst es
    have hs : flT f = -1 ∨ flT f = 1 := by unfold flT; split <;> simp
    refine r_istore_n (pc := 32) C dX6_nearer_32 rfl (by decide) ?_
    refine r_aload_n (pc := 33) C dX6_nearer_33 rfl rfl ?_
    refine r_get (pc := 34) (k := 0) (ci := 5) C dX6_nearer_34 (g1 h) (show vwC[5]? = some (RX6, TX6, 7) from rfl) in_X6 (by decide) (C.t _ q817) (fun _ h => h) rfl ?_
    refine r_aload_n (pc := 37) C dX6_nearer_37 rfl rfl ?_
    refine r_get (pc := 38) (k := 2) (ci := 5) C dX6_nearer_38 (g1 h) (show vwC[5]? = some (RX6, TX6, 7) from rfl) in_X6 (by decide) (C.t _ q821) (fun _ h => h) rfl ?_
    refine r_iaddZ (pc := 41) C dX6_nearer_41 ?_
    refine r_iload_n (pc := 42) C dX6_nearer_42 rfl rfl ?_
    refine r_aload_n (pc := 43) C dX6_nearer_43 rfl rfl ?_
    refine r_get (pc := 44) (k := 1) (ci := 5) C dX6_nearer_44 (g1 h) (show vwC[5]? = some (RX6, TX6, 7) from rfl) in_X6 (by decide) (C.t _ q819) (fun _ h => h) rfl ?_
    refine r_imulZ (pc := 47) C dX6_nearer_47 ?_
    refine r_iaddZ (pc := 48) C dX6_nearer_48 ?_
    refine r_istore_n (pc := 49) C dX6_nearer_49 rfl (by decide) ?_
    refine r_aload_n (pc := 50) C dX6_nearer_50 rfl rfl ?_
    refine r_get (pc := 51) (k := 0) (ci := 5) C dX6_nearer_51 (g1 h) (show vwC[5]? = some (RX6, TX6, 7) from rfl) in_X6 (by decide) (C.t _ q817) (fun _ h => h) rfl ?_
    refine r_invP (pc := 54) 1 C dX6_nearer_54 (pf_mabs f.1 (by unfold i32; omega)) rfl (lw_S q1095 q808 q93 q809) (by decide +kernel) rfl rfl ⟨Nat.le_of_ble_eq_true rfl, Nat.le_of_ble_eq_true rfl⟩ (Nat.le_of_ble_eq_true rfl) ⟨(by first | exact Nat.le_of_ble_eq_true rfl | (dsimp only [rmk]; omega) | omega), (by first | exact Nat.le_of_ble_eq_true rfl | (dsimp only [rmk]; omega) | omega)⟩ ?_
    refine r_aload_n (pc := 57) C dX6_nearer_57 rfl rfl ?_
    refine r_get (pc := 58) (k := 2) (ci := 5) C dX6_nearer_58 (g1 h) (show vwC[5]? = some (RX6, TX6, 7) from rfl) in_X6 (by decide) (C.t _ q821) (fun _ h => h) rfl ?_
    refine r_invP (pc := 61) 1 C dX6_nearer_61 (pf_mabs f.2.2 (by unfold i32; omega)) rfl (lw_S q1095 q808 q93 q809) (by decide +kernel) rfl rfl ⟨Nat.le_of_ble_eq_true rfl, Nat.le_of_ble_eq_true rfl⟩ (Nat.le_of_ble_eq_true rfl) ⟨(by first | exact Nat.le_of_ble_eq_true rfl | (dsimp only [rmk]; omega) | omega), (by first | exact Nat.le_of_ble_eq_true rfl | (dsimp only [rmk]; omega) | omega)⟩ ?_
    refine r_icmp_ltZ (pc := 64) (tgt := 95) C dX6_nearer_64 (by decide) hab.1 hab.2.1 (fun h64 => ?_) (fun h64 => ?_)
    · refine r_newE (pc := 95) (ci := 5) (fs := [.int (iI 0), .int (iI 0), .int (iI 0), .int (iI 0), .int (iI 0), .int (iI 0), .int (iI 0)]) 9 C dX6_nearer_95 (show vwC[5]? = some (RX6, TX6, 7) from rfl) in_X6 tyX6 tyX6_ok q1096 q811 q101 (by decide +kernel) (by first | exact Nat.le_of_ble_eq_true rfl | (dsimp only [rmk]; omega) | omega) (by first | exact Nat.le_of_ble_eq_true rfl | (dsimp only [rmk]; omega) | omega) (fun a95 n95 => ?_)
      refine r_dup (pc := 98) C dX6_nearer_98 rfl ?_
      refine r_aload_n (pc := 99) C dX6_nearer_99 rfl rfl ?_
      refine r_get (pc := 100) (k := 0) (ci := 5) C dX6_nearer_100 (g1 (up0 n95 h)) (show vwC[5]? = some (RX6, TX6, 7) from rfl) in_X6 (by decide) (C.t _ q817) (fun _ h => h) rfl ?_
      refine r_aload_n (pc := 103) C dX6_nearer_103 rfl rfl ?_
      refine r_get (pc := 104) (k := 1) (ci := 5) C dX6_nearer_104 (g1 (up0 n95 h)) (show vwC[5]? = some (RX6, TX6, 7) from rfl) in_X6 (by decide) (C.t _ q819) (fun _ h => h) rfl ?_
      refine r_iconstZ (pc := 107) C dX6_nearer_107 ?_
      refine r_iload_n (pc := 108) C dX6_nearer_108 rfl rfl ?_
      refine r_imulZ (pc := 109) C dX6_nearer_109 ?_
      refine r_aload_n (pc := 110) C dX6_nearer_110 rfl rfl ?_
      refine r_get (pc := 111) (k := 0) (ci := 5) C dX6_nearer_111 (g1 (up0 n95 h)) (show vwC[5]? = some (RX6, TX6, 7) from rfl) in_X6 (by decide) (C.t _ q817) (fun _ h => h) rfl ?_
      refine r_imulZ (pc := 114) C dX6_nearer_114 ?_
      refine r_iaddZ (pc := 115) C dX6_nearer_115 ?_
      refine r_iload_n (pc := 116) C dX6_nearer_116 rfl rfl ?_
      refine r_invI (pc := 117) 3 C dX6_nearer_117 (xm_init _ _ _ (gup_eq _ _ _) (by decide)) rfl (lw_meth q814) q101 q1097 q813 rfl (by decide +kernel) rfl rfl ⟨Nat.le_of_ble_eq_true rfl, Nat.le_of_ble_eq_true rfl⟩ (Nat.le_of_ble_eq_true rfl) ⟨(by first | exact Nat.le_of_ble_eq_true rfl | (dsimp only [rmk]; omega) | omega), (by first | exact Nat.le_of_ble_eq_true rfl | (dsimp only [rmk]; omega) | omega)⟩ (fun v117 G117 h117 => ?_)
      obtain ⟨rfl, q1⟩ := h117
      exact r_aret (pc := 120) C hQ dX6_nearer_120 (by first | exact Or.inl ⟨_, rfl⟩ | exact Or.inr ⟨_, rfl⟩) (by first | exact Or.inr ⟨_, rfl⟩ | exact Or.inl rfl) (by first | exact Nat.le_of_ble_eq_true rfl | (dsimp only [rmk]; omega) | omega) (by first | exact Nat.le_of_ble_eq_true rfl | (dsimp only [rmk]; omega) | omega) (fun G hG => (by cases hG; first | (refine ⟨a67, rfl, ?_, FR.made n67 q1⟩; unfold flS flM; rw [if_pos (by omega)]; exact q1.1) | (refine ⟨a95, rfl, ?_, FR.made n95 q1⟩; unfold flS flM; rw [if_neg (by omega)]; exact q1.1)))
    · refine r_newE (pc := 67) (ci := 5) (fs := [.int (iI 0), .int (iI 0), .int (iI 0), .int (iI 0), .int (iI 0), .int (iI 0), .int (iI 0)]) 9 C dX6_nearer_67 (show vwC[5]? = some (RX6, TX6, 7) from rfl) in_X6 tyX6 tyX6_ok q1096 q811 q101 (by decide +kernel) (by first | exact Nat.le_of_ble_eq_true rfl | (dsimp only [rmk]; omega) | omega) (by first | exact Nat.le_of_ble_eq_true rfl | (dsimp only [rmk]; omega) | omega) (fun a67 n67 => ?_)
      refine r_dup (pc := 70) C dX6_nearer_70 rfl ?_
      refine r_iload_n (pc := 71) C dX6_nearer_71 rfl rfl ?_
      refine r_aload_n (pc := 72) C dX6_nearer_72 rfl rfl ?_
      refine r_get (pc := 73) (k := 1) (ci := 5) C dX6_nearer_73 (g1 (up0 n67 h)) (show vwC[5]? = some (RX6, TX6, 7) from rfl) in_X6 (by decide) (C.t _ q819) (fun _ h => h) rfl ?_
      refine r_iconstZ (pc := 76) C dX6_nearer_76 ?_
      refine r_iload_n (pc := 77) C dX6_nearer_77 rfl rfl ?_
      refine r_imulZ (pc := 78) C dX6_nearer_78 ?_
      refine r_aload_n (pc := 79) C dX6_nearer_79 rfl rfl ?_
      refine r_get (pc := 80) (k := 2) (ci := 5) C dX6_nearer_80 (g1 (up0 n67 h)) (show vwC[5]? = some (RX6, TX6, 7) from rfl) in_X6 (by decide) (C.t _ q821) (fun _ h => h) rfl ?_
      refine r_imulZ (pc := 83) C dX6_nearer_83 ?_
      refine r_iaddZ (pc := 84) C dX6_nearer_84 ?_
      refine r_aload_n (pc := 85) C dX6_nearer_85 rfl rfl ?_
      refine r_get (pc := 86) (k := 2) (ci := 5) C dX6_nearer_86 (g1 (up0 n67 h)) (show vwC[5]? = some (RX6, TX6, 7) from rfl) in_X6 (by decide) (C.t _ q821) (fun _ h => h) rfl ?_
      refine r_invI (pc := 89) 3 C dX6_nearer_89 (xm_init _ _ _ (gup_eq _ _ _) (by decide)) rfl (lw_meth q814) q101 q1097 q813 rfl (by decide +kernel) rfl rfl ⟨Nat.le_of_ble_eq_true rfl, Nat.le_of_ble_eq_true rfl⟩ (Nat.le_of_ble_eq_true rfl) ⟨(by first | exact Nat.le_of_ble_eq_true rfl | (dsimp only [rmk]; omega) | omega), (by first | exact Nat.le_of_ble_eq_true rfl | (dsimp only [rmk]; omega) | omega)⟩ (fun v89 G89 h89 => ?_)
      obtain ⟨rfl, q1⟩ := h89
      refine r_goto (pc := 92) (tgt := 120) C dX6_nearer_92 (by decide) ?_
      exact r_aret (pc := 120) C hQ dX6_nearer_120 (by first | exact Or.inl ⟨_, rfl⟩ | exact Or.inr ⟨_, rfl⟩) (by first | exact Or.inr ⟨_, rfl⟩ | exact Or.inl rfl) (by first | exact Nat.le_of_ble_eq_true rfl | (dsimp only [rmk]; omega) | omega) (by first | exact Nat.le_of_ble_eq_true rfl | (dsimp only [rmk]; omega) | omega) (fun G hG => (by cases hG; first | (refine ⟨a67, rfl, ?_, FR.made n67 q1⟩; unfold flS flM; rw [if_pos (by omega)]; exact q1.1) | (refine ⟨a95, rfl, ?_, FR.made n95 q1⟩; unfold flS flM; rw [if_neg (by omega)]; exact q1.1)))
  refine r_aload_n (pc := 0) C dX6_nearer_0 rfl rfl ?_
  refine r_get (pc := 1) (k := 0) (ci := 5) C dX6_nearer_1 (g1 h) (show vwC[5]? = some (RX6, TX6, 7) from rfl) in_X6 (by decide) (C.t _ q817) (fun _ h => h) rfl ?_
  refine r_if_leZ (pc := 4) (tgt := 11) C dX6_nearer_4 (by decide) (by unfold i32; omega) (fun h4 => ?_) (fun h4 => ?_)
  · refine r_iconstZ (pc := 11) C dX6_nearer_11 ?_
    refine r_aload_n (pc := 12) C dX6_nearer_12 rfl rfl ?_
    refine r_get (pc := 13) (k := 1) (ci := 5) C dX6_nearer_13 (g1 h) (show vwC[5]? = some (RX6, TX6, 7) from rfl) in_X6 (by decide) (C.t _ q819) (fun _ h => h) rfl ?_
    refine r_if_leZ (pc := 16) (tgt := 23) C dX6_nearer_16 (by decide) (by unfold i32; omega) (fun h16 => ?_) (fun h16 => ?_)
    · refine r_iconstZ (pc := 23) C dX6_nearer_23 ?_
      refine r_icmp_eqZ (pc := 24) (tgt := 31) C dX6_nearer_24 (by decide) (by unfold i32; omega) (by unfold i32; omega) (fun h24 => ?_) (fun h24 => ?_)
      · refine r_iconstZ (pc := 31) C dX6_nearer_31 ?_
        exact rest _ (by unfold flT; first | (rw [if_pos (by omega)]; done) | (rw [if_neg (by omega)]; done))
      · refine r_iconstZ (pc := 27) C dX6_nearer_27 ?_
        refine r_goto (pc := 28) (tgt := 32) C dX6_nearer_28 (by decide) ?_
        exact rest _ (by unfold flT; first | (rw [if_pos (by omega)]; done) | (rw [if_neg (by omega)]; done))
    · refine r_iconstZ (pc := 19) C dX6_nearer_19 ?_
      refine r_goto (pc := 20) (tgt := 24) C dX6_nearer_20 (by decide) ?_
      refine r_icmp_eqZ (pc := 24) (tgt := 31) C dX6_nearer_24 (by decide) (by unfold i32; omega) (by unfold i32; omega) (fun h24 => ?_) (fun h24 => ?_)
      · refine r_iconstZ (pc := 31) C dX6_nearer_31 ?_
        exact rest _ (by unfold flT; first | (rw [if_pos (by omega)]; done) | (rw [if_neg (by omega)]; done))
      · refine r_iconstZ (pc := 27) C dX6_nearer_27 ?_
        refine r_goto (pc := 28) (tgt := 32) C dX6_nearer_28 (by decide) ?_
        exact rest _ (by unfold flT; first | (rw [if_pos (by omega)]; done) | (rw [if_neg (by omega)]; done))
  · refine r_iconstZ (pc := 7) C dX6_nearer_7 ?_
    refine r_goto (pc := 8) (tgt := 12) C dX6_nearer_8 (by decide) ?_
    refine r_aload_n (pc := 12) C dX6_nearer_12 rfl rfl ?_
    refine r_get (pc := 13) (k := 1) (ci := 5) C dX6_nearer_13 (g1 h) (show vwC[5]? = some (RX6, TX6, 7) from rfl) in_X6 (by decide) (C.t _ q819) (fun _ h => h) rfl ?_
    refine r_if_leZ (pc := 16) (tgt := 23) C dX6_nearer_16 (by decide) (by unfold i32; omega) (fun h16 => ?_) (fun h16 => ?_)
    · refine r_iconstZ (pc := 23) C dX6_nearer_23 ?_
      refine r_icmp_eqZ (pc := 24) (tgt := 31) C dX6_nearer_24 (by decide) (by unfold i32; omega) (by unfold i32; omega) (fun h24 => ?_) (fun h24 => ?_)
      · refine r_iconstZ (pc := 31) C dX6_nearer_31 ?_
        exact rest _ (by unfold flT; first | (rw [if_pos (by omega)]; done) | (rw [if_neg (by omega)]; done))
      · refine r_iconstZ (pc := 27) C dX6_nearer_27 ?_
        refine r_goto (pc := 28) (tgt := 32) C dX6_nearer_28 (by decide) ?_
        exact rest _ (by unfold flT; first | (rw [if_pos (by omega)]; done) | (rw [if_neg (by omega)]; done))
    · refine r_iconstZ (pc := 19) C dX6_nearer_19 ?_
      refine r_goto (pc := 20) (tgt := 24) C dX6_nearer_20 (by decide) ?_
      refine r_icmp_eqZ (pc := 24) (tgt := 31) C dX6_nearer_24 (by decide) (by unfold i32; omega) (by unfold i32; omega) (fun h24 => ?_) (fun h24 => ?_)
      · refine r_iconstZ (pc := 31) C dX6_nearer_31 ?_
        exact rest _ (by unfold flT; first | (rw [if_pos (by omega)]; done) | (rw [if_neg (by omega)]; done))
      · refine r_iconstZ (pc := 27) C dX6_nearer_27 ?_
        refine r_goto (pc := 28) (tgt := 32) C dX6_nearer_28 (by decide) ?_
        exact rest _ (by unfold flT; first | (rw [if_pos (by omega)]; done) | (rw [if_neg (by omega)]; done))
set_option maxHeartbeats 800000 in
theorem xm_upright {la : Launch} {X : XE} {G0 : Gh} {x t : Nat} {f : Fm} {c n b m : Int} (h : FRM G0 x t f c n b m) (hi : i32 f.1) (h0 : f.1 ≠ 0) : MG la X yX6_upright cX6_upright 1 (some (.object "RiverWords$Form")) (rmk 2 1 7 43) [.ref x] (fun G => G = G0) (fun v G => ∃ e t' c' n' b' m', v = some (.ref e) ∧ FRM G e t' (flUp f) c' n' b' m' ∧ FR [] G0 G) := by
  refine MG.of (by decide +kernel) (Nat.le_of_ble_eq_true rfl) ?_
  intro Z C hX hL hQ
  subst hX; subst hL
  change WW Z 1 (fun G => G = G0) 0 0 0 [some (.ref x)] []
  refine r_aload_n (pc := 0) C dX6_upright_0 rfl rfl ?_
  refine r_get (pc := 1) (k := 0) (ci := 5) C dX6_upright_1 (g1 h) (show vwC[5]? = some (RX6, TX6, 7) from rfl) in_X6 (by decide) (C.t _ q817) (fun _ h => h) rfl ?_
  refine r_if_geZ (pc := 4) (tgt := 30) C dX6_upright_4 (by decide) hi (fun h4 => ?_) (fun h4 => ?_)
  · refine r_aload_n (pc := 30) C dX6_upright_30 rfl rfl ?_
    exact r_aret (pc := 31) C hQ dX6_upright_31 (by first | exact Or.inl ⟨_, rfl⟩ | exact Or.inr ⟨_, rfl⟩) (by first | exact Or.inr ⟨_, rfl⟩ | exact Or.inl rfl) (by first | exact Nat.le_of_ble_eq_true rfl | (dsimp only [rmk]; omega) | omega) (by first | exact Nat.le_of_ble_eq_true rfl | (dsimp only [rmk]; omega) | omega) (fun G hG => (by cases hG; first | (refine ⟨a7, 9, NON, 0, 0, 0, rfl, ?_, FR.made n7 q1⟩; unfold flUp; rw [if_neg (by omega)]; exact q1.1) | (refine ⟨x, t, c, n, b, m, rfl, ?_, FR.rf⟩; unfold flUp; rw [if_pos (by omega)]; exact h)))
  · refine r_newE (pc := 7) (ci := 5) (fs := [.int (iI 0), .int (iI 0), .int (iI 0), .int (iI 0), .int (iI 0), .int (iI 0), .int (iI 0)]) 9 C dX6_upright_7 (show vwC[5]? = some (RX6, TX6, 7) from rfl) in_X6 tyX6 tyX6_ok q1096 q811 q101 (by decide +kernel) (by first | exact Nat.le_of_ble_eq_true rfl | (dsimp only [rmk]; omega) | omega) (by first | exact Nat.le_of_ble_eq_true rfl | (dsimp only [rmk]; omega) | omega) (fun a7 n7 => ?_)
    refine r_dup (pc := 10) C dX6_upright_10 rfl ?_
    refine r_aload_n (pc := 11) C dX6_upright_11 rfl rfl ?_
    refine r_get (pc := 12) (k := 2) (ci := 5) C dX6_upright_12 (g1 (up0 n7 h)) (show vwC[5]? = some (RX6, TX6, 7) from rfl) in_X6 (by decide) (C.t _ q821) (fun _ h => h) rfl ?_
    refine r_aload_n (pc := 15) C dX6_upright_15 rfl rfl ?_
    refine r_get (pc := 16) (k := 1) (ci := 5) C dX6_upright_16 (g1 (up0 n7 h)) (show vwC[5]? = some (RX6, TX6, 7) from rfl) in_X6 (by decide) (C.t _ q819) (fun _ h => h) rfl ?_
    refine r_inegZ (pc := 19) C dX6_upright_19 ?_
    refine r_aload_n (pc := 20) C dX6_upright_20 rfl rfl ?_
    refine r_get (pc := 21) (k := 0) (ci := 5) C dX6_upright_21 (g1 (up0 n7 h)) (show vwC[5]? = some (RX6, TX6, 7) from rfl) in_X6 (by decide) (C.t _ q817) (fun _ h => h) rfl ?_
    refine r_invI (pc := 24) 3 C dX6_upright_24 (xm_init _ _ _ (gup_eq _ _ _) (by decide)) rfl (lw_meth q814) q101 q1097 q813 rfl (by decide +kernel) rfl rfl ⟨Nat.le_of_ble_eq_true rfl, Nat.le_of_ble_eq_true rfl⟩ (Nat.le_of_ble_eq_true rfl) ⟨(by first | exact Nat.le_of_ble_eq_true rfl | (dsimp only [rmk]; omega) | omega), (by first | exact Nat.le_of_ble_eq_true rfl | (dsimp only [rmk]; omega) | omega)⟩ (fun v24 G24 h24 => ?_)
    obtain ⟨rfl, q1⟩ := h24
    refine r_goto (pc := 27) (tgt := 31) C dX6_upright_27 (by decide) ?_
    exact r_aret (pc := 31) C hQ dX6_upright_31 (by first | exact Or.inl ⟨_, rfl⟩ | exact Or.inr ⟨_, rfl⟩) (by first | exact Or.inr ⟨_, rfl⟩ | exact Or.inl rfl) (by first | exact Nat.le_of_ble_eq_true rfl | (dsimp only [rmk]; omega) | omega) (by first | exact Nat.le_of_ble_eq_true rfl | (dsimp only [rmk]; omega) | omega) (fun G hG => (by cases hG; first | (refine ⟨a7, 9, NON, 0, 0, 0, rfl, ?_, FR.made n7 q1⟩; unfold flUp; rw [if_neg (by omega)]; exact q1.1) | (refine ⟨x, t, c, n, b, m, rfl, ?_, FR.rf⟩; unfold flUp; rw [if_pos (by omega)]; exact h)))
set_option maxHeartbeats 800000 in
theorem xf_isSquare (d : Nat) (hd : d ≤ 900) : PF yX0_isSquare cX0_isSquare 2 (some .boolean) 0 0 [.int (iI (d : Int))] (some (.int (iI (bi (sqB d))))) := by
  intro l X Γ
  refine MG.of (by decide +kernel) (Nat.le_of_ble_eq_true rfl) ?_
  intro Z C hX hL hQ
  subst hX; subst hL
  change WW Z 2 Γ 0 0 0 [some (.int (iI (d : Int))), none] []
  have loop : ∀ x : Nat, x ≤ 30 → (∀ j, j < x → j * j < d) → WW Z 2 Γ 0 0 2 [some (.int (iI (d : Int))), some (.int (iI (x : Int)))] [] := by
    refine loopN _ _ (fun x hx ih g => ?_)
    have e : (x : Int) * (x : Int) = ((x * x : Nat) : Int) := (Int.natCast_mul x x).symm
    have hb : x * x ≤ 30 * 30 := Nat.mul_le_mul hx hx
    have fin : d ≤ x * x → fstN (fun x => decide (d ≤ x * x)) 31 = x := fun h => fstN_eq (by omega) (fun j hj => decide_eq_false (by have := g j hj; omega)) (fun _ => decide_eq_true h)
    refine r_iload_n (pc := 2) C dX0_isSquare_2 rfl rfl ?_
    refine r_iload_n (pc := 3) C dX0_isSquare_3 rfl rfl ?_
    refine r_imulZ (pc := 4) C dX0_isSquare_4 ?_
    rw [e]
    refine r_iload_n (pc := 5) C dX0_isSquare_5 rfl rfl ?_
    refine r_icmp_geZ (pc := 6) (tgt := 15) C dX0_isSquare_6 (by decide) (by unfold i32; omega) (by unfold i32; omega) (fun h6 => ?_) (fun h6 => ?_)
    · refine r_iload_n (pc := 15) C dX0_isSquare_15 rfl rfl ?_
      refine r_iload_n (pc := 16) C dX0_isSquare_16 rfl rfl ?_
      refine r_imulZ (pc := 17) C dX0_isSquare_17 ?_
      rw [e]
      refine r_iload_n (pc := 18) C dX0_isSquare_18 rfl rfl ?_
      refine r_icmp_neZ (pc := 19) (tgt := 26) C dX0_isSquare_19 (by decide) (by unfold i32; omega) (by unfold i32; omega) (fun h19 => ?_) (fun h19 => ?_)
      · refine r_iconstZ (pc := 26) C dX0_isSquare_26 ?_
        exact r_zret (pc := 27) C hQ dX0_isSquare_27 (by first | exact b2_nar _ | decide) (Nat.le_of_ble_eq_true rfl) (Nat.le_of_ble_eq_true rfl) (fun G hG => ⟨hG, (by unfold sqB; rw [fin (by omega)]; first | (rw [decide_eq_true ⟨by omega, by omega⟩]; rfl) | (rw [decide_eq_false (by omega)]; rfl))⟩)
      · refine r_iconstZ (pc := 22) C dX0_isSquare_22 ?_
        refine r_goto (pc := 23) (tgt := 27) C dX0_isSquare_23 (by decide) ?_
        exact r_zret (pc := 27) C hQ dX0_isSquare_27 (by first | exact b2_nar _ | decide) (Nat.le_of_ble_eq_true rfl) (Nat.le_of_ble_eq_true rfl) (fun G hG => ⟨hG, (by unfold sqB; rw [fin (by omega)]; first | (rw [decide_eq_true ⟨by omega, by omega⟩]; rfl) | (rw [decide_eq_false (by omega)]; rfl))⟩)
    · refine r_iincZ (pc := 9) C dX0_isSquare_9 rfl (by decide) ?_
      refine r_goto (pc := 12) (tgt := 2) C dX0_isSquare_12 (by decide) ?_
      have hx30 : x < 30 := (by rcases Nat.lt_or_ge x 30 with q | q; exact q; have : 30 * 30 ≤ x * x := Nat.mul_le_mul q q; omega)
      exact ih hx30 (fun j hj => by by_cases e : j = x; rw [e]; omega; exact g j (by omega))
  refine r_iconstZ (pc := 0) C dX0_isSquare_0 ?_
  refine r_istore_n (pc := 1) C dX0_isSquare_1 rfl (by decide) ?_
  exact loop 0 (Nat.zero_le _) (fun j hj => absurd hj (Nat.not_lt_zero _))

