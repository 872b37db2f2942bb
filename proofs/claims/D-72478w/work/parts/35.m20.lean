/-! the reference's methods: the digest, the rest -/
set_option maxRecDepth 100000
theorem catN_nil {f : Nat → List Int} : ∀ n : Nat, (∀ j, j < n → f j = []) → catN f n = []
  | 0, _ => rfl
  | n + 1, h => by
    show catN f n ++ f n = []
    rw [catN_nil n (fun j hj => h j (by omega)), h n (by omega)]
    rfl
def rowXs (ws : Wss) : List Int := catN (fun i => catN (fun j => if i ≤ j then rowCross (ws.getD i []) (ws.getD j []) else []) ws.length) ws.length
set_option maxHeartbeats 800000 in
theorem mt_mixCrossings {la : Launch} {X : XE} {mh : Nat} {mad : Nat → Nat} {G0 : Gh} {st : MSt} (ws : Wss) (h : RoadsAre st ws) : MM la X mh mad G0 yX2_mixCrossings cX2_mixCrossings 3 none 3 71 [] st (fun v st' => v = none ∧ Mix st st' (rowXs ws)) := by
  refine MG.of (by decide +kernel) (Nat.le_of_ble_eq_true rfl) ?_
  intro Z C hX hL hQ
  subst hX; subst hL
  change WW Z 3 (MOD mh mad G0 st) 0 0 0 [some (.ref mh), none, none] []
  have hl := h.2.1
  have roads : ∀ (sti : MSt) (l : List Int), Mix st sti l → RoadsAre sti ws := fun sti l g => h.x g.2 (by decide) (by decide) (by decide)
  have loop : ∀ i : Nat, i ≤ ws.length → ∀ (sti : MSt) (v2 : Option Value), Mix st sti (catN (fun i => catN (fun j => if i ≤ j then rowCross (ws.getD i []) (ws.getD j []) else []) ws.length) i) → WW Z 3 (MOD mh mad G0 sti) 0 0 2 [some (.ref mh), some (.int (iI (i : Int))), v2] [] := by
    refine loopN _ _ (fun i hi ih sti v2 g => ?_)
    have inner : i < ws.length → ∀ j : Nat, j ≤ ws.length → ∀ stj : MSt, i ≤ j → Mix st stj (catN (fun i => catN (fun j => if i ≤ j then rowCross (ws.getD i []) (ws.getD j []) else []) ws.length) i ++ catN (fun j => if i ≤ j then rowCross (ws.getD i []) (ws.getD j []) else []) j) → WW Z 3 (MOD mh mad G0 stj) 0 0 12 [some (.ref mh), some (.int (iI (i : Int))), some (.int (iI (j : Int)))] [] := by
      intro hil
      refine loopN _ _ (fun j hj ihj stj hij f => ?_)
      have hr := roads stj _ f
      have e : ∀ l : List Int, (if i ≤ j then rowCross (ws.getD i []) (ws.getD j []) else []) = l → catN (fun i => catN (fun j => if i ≤ j then rowCross (ws.getD i []) (ws.getD j []) else []) ws.length) i ++ catN (fun j => if i ≤ j then rowCross (ws.getD i []) (ws.getD j []) else []) (j + 1) = (catN (fun i => catN (fun j => if i ≤ j then rowCross (ws.getD i []) (ws.getD j []) else []) ws.length) i ++ catN (fun j => if i ≤ j then rowCross (ws.getD i []) (ws.getD j []) else []) j) ++ l := fun l hl => by
        rw [← hl, List.append_assoc]
        rfl
      refine r_iload_n (pc := 12) C dX2_mixCrossings_12 rfl rfl ?_
      refine r_aload_n (pc := 13) C dX2_mixCrossings_13 rfl rfl ?_
      refine r_mget (pc := 14) (k := 2) C dX2_mixCrossings_14 rfl q1174 (by decide) rfl ?_
      rw [hr.1]
      refine r_icmp_geZ (pc := 17) (tgt := 53) C dX2_mixCrossings_17 (by decide) (by unfold i32; omega) (by unfold i32; omega) (fun h17 => ?_) (fun h17 => ?_)
      · refine r_iincZ (pc := 53) C dX2_mixCrossings_53 rfl (by decide) ?_
        refine r_goto (pc := 56) (tgt := 2) C dX2_mixCrossings_56 (by decide) ?_
        obtain rfl : j = ws.length := (by omega)
        exact ih hil _ _ f
      · refine r_aload_n (pc := 20) C dX2_mixCrossings_20 rfl rfl ?_
        refine r_iload_n (pc := 21) C dX2_mixCrossings_21 rfl rfl ?_
        refine r_minv (pc := 22) 1 C dX2_mixCrossings_22 (mt_isClosed (i : Int) (ws.getD i []) (by omega) (hr.n (by omega))) rfl (lw_V q1390 q1392 qs44 q92 q1393) (by decide +kernel) rfl rfl ⟨Nat.le_of_ble_eq_true rfl, Nat.le_of_ble_eq_true rfl⟩ (Nat.le_of_ble_eq_true rfl) ⟨Nat.le_of_ble_eq_true rfl, Nat.le_of_ble_eq_true rfl⟩ (fun v22 st22 h22 => ?_)
        obtain ⟨rfl, -, h22⟩ := h22
        have f2 := f.q (h22.wk (by decide)) (h22 34 (by decide)).1
        refine r_if_eqZ (pc := 25) (tgt := 47) C dX2_mixCrossings_25 (by decide) (bi_i _) (fun h25 => ?_) (fun h25 => ?_)
        · refine r_iincZ (pc := 47) C dX2_mixCrossings_47 rfl (by decide) ?_
          refine r_goto (pc := 50) (tgt := 12) C dX2_mixCrossings_50 (by decide) ?_
          refine ihj (by omega) _ (by omega) ?_
          first | (rw [e [sCross (ws.getD i []) (ws.getD j [])] (by rw [if_pos hij]; unfold rowCross; rw [if_pos ⟨bi_n0 h25, bi_n0 h33⟩])]; exact f3.qone h40 (by decide) (by decide)) | (rw [e [] (by rw [if_pos hij]; unfold rowCross; rw [if_neg (fun q => by rw [bi_0.mp h33] at q; exact absurd q.2 (by decide))]), List.append_nil]; exact f3) | (rw [e [] (by rw [if_pos hij]; unfold rowCross; rw [if_neg (fun q => by rw [bi_0.mp h25] at q; exact absurd q.1 (by decide))]), List.append_nil]; exact f2)
        · refine r_aload_n (pc := 28) C dX2_mixCrossings_28 rfl rfl ?_
          refine r_iload_n (pc := 29) C dX2_mixCrossings_29 rfl rfl ?_
          refine r_minv (pc := 30) 1 C dX2_mixCrossings_30 (mt_isClosed (j : Int) (ws.getD j []) (by omega) ((roads _ _ f2).n (by omega))) rfl (lw_V q1390 q1392 qs44 q92 q1393) (by decide +kernel) rfl rfl ⟨Nat.le_of_ble_eq_true rfl, Nat.le_of_ble_eq_true rfl⟩ (Nat.le_of_ble_eq_true rfl) ⟨Nat.le_of_ble_eq_true rfl, Nat.le_of_ble_eq_true rfl⟩ (fun v30 st30 h30 => ?_)
          obtain ⟨rfl, -, h30⟩ := h30
          have f3 := f2.q (h30.wk (by decide)) (h30 34 (by decide)).1
          refine r_if_eqZ (pc := 33) (tgt := 47) C dX2_mixCrossings_33 (by decide) (bi_i _) (fun h33 => ?_) (fun h33 => ?_)
          · refine r_iincZ (pc := 47) C dX2_mixCrossings_47 rfl (by decide) ?_
            refine r_goto (pc := 50) (tgt := 12) C dX2_mixCrossings_50 (by decide) ?_
            refine ihj (by omega) _ (by omega) ?_
            first | (rw [e [sCross (ws.getD i []) (ws.getD j [])] (by rw [if_pos hij]; unfold rowCross; rw [if_pos ⟨bi_n0 h25, bi_n0 h33⟩])]; exact f3.qone h40 (by decide) (by decide)) | (rw [e [] (by rw [if_pos hij]; unfold rowCross; rw [if_neg (fun q => by rw [bi_0.mp h33] at q; exact absurd q.2 (by decide))]), List.append_nil]; exact f3) | (rw [e [] (by rw [if_pos hij]; unfold rowCross; rw [if_neg (fun q => by rw [bi_0.mp h25] at q; exact absurd q.1 (by decide))]), List.append_nil]; exact f2)
          · refine r_aload_n (pc := 36) C dX2_mixCrossings_36 rfl rfl ?_
            refine r_aload_n (pc := 37) C dX2_mixCrossings_37 rfl rfl ?_
            refine r_iload_n (pc := 38) C dX2_mixCrossings_38 rfl rfl ?_
            refine r_iload_n (pc := 39) C dX2_mixCrossings_39 rfl rfl ?_
            refine r_minv (pc := 40) 2 C dX2_mixCrossings_40 (mt_crossings (i : Int) (j : Int) (ws.getD i []) (ws.getD j []) (by omega) (by omega) ((roads _ _ f3).n (by omega)) ((roads _ _ f3).n (by omega))) rfl (lw_V q1431 q1433 qs49 q92 q1434) (by decide +kernel) rfl rfl ⟨Nat.le_of_ble_eq_true rfl, Nat.le_of_ble_eq_true rfl⟩ (Nat.le_of_ble_eq_true rfl) ⟨Nat.le_of_ble_eq_true rfl, Nat.le_of_ble_eq_true rfl⟩ (fun v40 st40 h40 => ?_)
            obtain ⟨rfl, h40⟩ := h40
            refine r_i2lW (pc := 43) C dX2_mixCrossings_43 ?_
            refine r_minv (pc := 44) 1 C dX2_mixCrossings_44 (mt_mix (w32 (sCross (ws.getD i []) (ws.getD j [])))) rfl (lw_V q1619 q1621 qs77 q92 q1622) (by decide +kernel) rfl rfl ⟨Nat.le_of_ble_eq_true rfl, Nat.le_of_ble_eq_true rfl⟩ (Nat.le_of_ble_eq_true rfl) ⟨Nat.le_of_ble_eq_true rfl, Nat.le_of_ble_eq_true rfl⟩ (fun v44 st44 h44 => ?_)
            obtain ⟨rfl, rfl⟩ := h44
            refine r_iincZ (pc := 47) C dX2_mixCrossings_47 rfl (by decide) ?_
            refine r_goto (pc := 50) (tgt := 12) C dX2_mixCrossings_50 (by decide) ?_
            refine ihj (by omega) _ (by omega) ?_
            first | (rw [e [sCross (ws.getD i []) (ws.getD j [])] (by rw [if_pos hij]; unfold rowCross; rw [if_pos ⟨bi_n0 h25, bi_n0 h33⟩])]; exact f3.qone h40 (by decide) (by decide)) | (rw [e [] (by rw [if_pos hij]; unfold rowCross; rw [if_neg (fun q => by rw [bi_0.mp h33] at q; exact absurd q.2 (by decide))]), List.append_nil]; exact f3) | (rw [e [] (by rw [if_pos hij]; unfold rowCross; rw [if_neg (fun q => by rw [bi_0.mp h25] at q; exact absurd q.1 (by decide))]), List.append_nil]; exact f2)
    refine r_iload_n (pc := 2) C dX2_mixCrossings_2 rfl rfl ?_
    refine r_aload_n (pc := 3) C dX2_mixCrossings_3 rfl rfl ?_
    refine r_mget (pc := 4) (k := 2) C dX2_mixCrossings_4 rfl q1174 (by decide) rfl ?_
    rw [(roads _ _ g).1]
    refine r_icmp_geZ (pc := 7) (tgt := 59) C dX2_mixCrossings_7 (by decide) (by unfold i32; omega) (by unfold i32; omega) (fun h7 => ?_) (fun h7 => ?_)
    · exact r_vret (pc := 59) C hQ dX2_mixCrossings_59 (Nat.le_of_ble_eq_true rfl) (Nat.le_of_ble_eq_true rfl) (fun G hG => ⟨_, hG, ⟨rfl, by obtain rfl : i = ws.length := (by omega); exact g⟩⟩)
    · refine r_iload_n (pc := 10) C dX2_mixCrossings_10 rfl rfl ?_
      refine r_istore_n (pc := 11) C dX2_mixCrossings_11 rfl (by decide) ?_
      refine inner (by omega) i hi _ (Nat.le_refl _) ?_
      rw [catN_nil i (fun j hj => if_neg (by omega)), List.append_nil]
      exact g
  refine r_iconstZ (pc := 0) C dX2_mixCrossings_0 ?_
  refine r_istore_n (pc := 1) C dX2_mixCrossings_1 rfl (by decide) ?_
  exact loop 0 (Nat.zero_le _) _ _ (Mix.nil _)
def rvL (d : Int) (k : Nat) : List Int := catN (fun k => rowL (fun j => sNow d k j) 8) (k / 8) ++ rowL (fun j => sNow d (k / 8) j) (k % 8)
theorem rvL_s (d : Int) (k : Nat) : rvL d (k + 1) = rvL d k ++ [sNow d (k / 8) ((k % 8 : Nat) : Int)] := by
  unfold rvL
  rw [List.append_assoc, ← rowL_s]
  by_cases h : k % 8 = 7
  · rw [show (k + 1) / 8 = k / 8 + 1 by omega, show (k + 1) % 8 = 0 by omega, h]
    show (catN _ (k / 8) ++ _) ++ [] = _
    rw [List.append_nil]
  · rw [show (k + 1) / 8 = k / 8 by omega, show (k + 1) % 8 = k % 8 + 1 by omega]
theorem rvL_all (d : Int) : rvL d (8 * nR d) = catN (fun k => rowL (fun j => sNow d k j) 8) (nR d) := by
  unfold rvL
  rw [show 8 * nR d / 8 = nR d by omega, show 8 * nR d % 8 = 0 by omega]
  exact List.append_nil _
set_option maxHeartbeats 800000 in
theorem mt_mixRiver {la : Launch} {X : XE} {mh : Nat} {mad : Nat → Nat} {G0 : Gh} {st : MSt} (d : Int) (h : RivAt st d) : MM la X mh mad G0 yX2_mixRiver cX2_mixRiver 3 none 3 69 [] st (fun v st' => v = none ∧ Mix st st' (rowRiver d)) := by
  refine MG.of (by decide +kernel) (Nat.le_of_ble_eq_true rfl) ?_
  intro Z C hX hL hQ
  subst hX; subst hL
  change WW Z 3 (MOD mh mad G0 st) 0 0 0 [some (.ref mh), none, none] []
  have hlen := h.len
  have riv : ∀ (sti : MSt) (l : List Int), Mix st sti l → RivAt sti d := fun sti l g => h.x g.2 (by decide)
  have loop2 : ∀ c : Nat, c ≤ nC d → ∀ (sti : MSt) (v2 : Option Value), Mix st sti (catN (fun k => rowL (fun j => sNow d k j) 8) (nR d) ++ catN (fun c => rowL (fun j => cTold d c j) 5 ++ [trW 997 (wC d c)]) c) → WW Z 3 (MOD mh mad G0 sti) 0 0 38 [some (.ref mh), some (.int (iI (c : Int))), v2] [] := by
    refine loopN _ _ (fun c hc ih sti v2 g => ?_)
    have inner : c < nC d → ∀ j : Nat, j ≤ 5 → ∀ stj : MSt, Mix st stj ((catN (fun k => rowL (fun j => sNow d k j) 8) (nR d) ++ catN (fun c => rowL (fun j => cTold d c j) 5 ++ [trW 997 (wC d c)]) c) ++ rowL (fun j => cTold d c j) j) → WW Z 3 (MOD mh mad G0 stj) 0 0 48 [some (.ref mh), some (.int (iI (c : Int))), some (.int (iI (j : Int)))] [] := by
      intro hcl
      refine loopN _ _ (fun j hj ihj stj f => ?_)
      refine r_iload_n (pc := 48) C dX2_mixRiver_48 rfl rfl ?_
      refine r_iconstZ (pc := 49) C dX2_mixRiver_49 ?_
      refine r_icmp_geZ (pc := 50) (tgt := 70) C dX2_mixRiver_50 (by decide) (by unfold i32; omega) (by unfold i32; omega) (fun h50 => ?_) (fun h50 => ?_)
      · refine r_aload_n (pc := 70) C dX2_mixRiver_70 rfl rfl ?_
        refine r_aload_n (pc := 71) C dX2_mixRiver_71 rfl rfl ?_
        refine r_iload_n (pc := 72) C dX2_mixRiver_72 rfl rfl ?_
        refine r_sipushZ (pc := 73) C dX2_mixRiver_73 (by decide) ?_
        refine r_minv (pc := 76) 2 C dX2_mixRiver_76 (mt_traceOf d c 997 hcl (by omega) (riv _ _ f)) rfl (lw_V q1546 q1548 qs66 q92 q1549) (by decide +kernel) rfl rfl ⟨Nat.le_of_ble_eq_true rfl, Nat.le_of_ble_eq_true rfl⟩ (Nat.le_of_ble_eq_true rfl) ⟨Nat.le_of_ble_eq_true rfl, Nat.le_of_ble_eq_true rfl⟩ (fun v76 st76 h76 => ?_)
        obtain ⟨rfl, rfl⟩ := h76
        refine r_i2lW (pc := 79) C dX2_mixRiver_79 ?_
        refine r_minv (pc := 80) 1 C dX2_mixRiver_80 (mt_mix (w32 (trW 997 (wC d c)))) rfl (lw_V q1619 q1621 qs77 q92 q1622) (by decide +kernel) rfl rfl ⟨Nat.le_of_ble_eq_true rfl, Nat.le_of_ble_eq_true rfl⟩ (Nat.le_of_ble_eq_true rfl) ⟨Nat.le_of_ble_eq_true rfl, Nat.le_of_ble_eq_true rfl⟩ (fun v80 st80 h80 => ?_)
        obtain ⟨rfl, rfl⟩ := h80
        refine r_iincZ (pc := 83) C dX2_mixRiver_83 rfl (by decide) ?_
        refine r_goto (pc := 86) (tgt := 38) C dX2_mixRiver_86 (by decide) ?_
        obtain rfl : j = 5 := (by omega)
        refine ih hcl _ _ ?_
        have q := f.one (v := trW 997 (wC d c))
        rw [List.append_assoc, List.append_assoc] at q
        exact q
      · refine r_aload_n (pc := 53) C dX2_mixRiver_53 rfl rfl ?_
        refine r_aload_n (pc := 54) C dX2_mixRiver_54 rfl rfl ?_
        refine r_iload_n (pc := 55) C dX2_mixRiver_55 rfl rfl ?_
        refine r_iload_n (pc := 56) C dX2_mixRiver_56 rfl rfl ?_
        refine r_minv (pc := 57) 2 C dX2_mixRiver_57 (mt_cycleNow d c (j : Int) hcl (by omega) (riv _ _ f)) rfl (lw_V q1522 q1524 qs62 q92 q1525) (by decide +kernel) rfl rfl ⟨Nat.le_of_ble_eq_true rfl, Nat.le_of_ble_eq_true rfl⟩ (Nat.le_of_ble_eq_true rfl) ⟨Nat.le_of_ble_eq_true rfl, Nat.le_of_ble_eq_true rfl⟩ (fun v57 st57 h57 => ?_)
        obtain ⟨rfl, rfl⟩ := h57
        refine r_i2lW (pc := 60) C dX2_mixRiver_60 ?_
        refine r_minv (pc := 61) 1 C dX2_mixRiver_61 (mt_mix (w32 (cTold d c j))) rfl (lw_V q1619 q1621 qs77 q92 q1622) (by decide +kernel) rfl rfl ⟨Nat.le_of_ble_eq_true rfl, Nat.le_of_ble_eq_true rfl⟩ (Nat.le_of_ble_eq_true rfl) ⟨Nat.le_of_ble_eq_true rfl, Nat.le_of_ble_eq_true rfl⟩ (fun v61 st61 h61 => ?_)
        obtain ⟨rfl, rfl⟩ := h61
        refine r_iincZ (pc := 64) C dX2_mixRiver_64 rfl (by decide) ?_
        refine r_goto (pc := 67) (tgt := 48) C dX2_mixRiver_67 (by decide) ?_
        exact ihj (by omega) _ (f.row (eqx.rf (ks := [])) (by decide) (by decide) rfl)
    refine r_iload_n (pc := 38) C dX2_mixRiver_38 rfl rfl ?_
    refine r_aload_n (pc := 39) C dX2_mixRiver_39 rfl rfl ?_
    refine r_mget (pc := 40) (k := 13) C dX2_mixRiver_40 rfl q1185 (by decide) rfl ?_
    rw [(riv _ _ g).nc]
    refine r_icmp_geZ (pc := 43) (tgt := 89) C dX2_mixRiver_43 (by decide) (by unfold i32; omega) (by unfold i32; omega) (fun h43 => ?_) (fun h43 => ?_)
    · exact r_vret (pc := 89) C hQ dX2_mixRiver_89 (Nat.le_of_ble_eq_true rfl) (Nat.le_of_ble_eq_true rfl) (fun G hG => ⟨_, hG, ⟨rfl, by obtain rfl : c = nC d := (by omega); exact g⟩⟩)
    · refine r_iconstZ (pc := 46) C dX2_mixRiver_46 ?_
      refine r_istore_n (pc := 47) C dX2_mixRiver_47 rfl (by decide) ?_
      exact inner (by omega) 0 (Nat.zero_le _) _ ((List.append_nil _).symm ▸ g)
  have loop1 : ∀ k : Nat, k ≤ 8 * nR d → ∀ sti : MSt, Mix st sti (rvL d k) → WW Z 3 (MOD mh mad G0 sti) 0 0 2 [some (.ref mh), some (.int (iI (k : Int))), none] [] := by
    refine loopN _ _ (fun k hk ih sti g => ?_)
    refine r_iload_n (pc := 2) C dX2_mixRiver_2 rfl rfl ?_
    refine r_bipushZ (pc := 3) C dX2_mixRiver_3 (by decide) ?_
    refine r_aload_n (pc := 5) C dX2_mixRiver_5 rfl rfl ?_
    refine r_mget (pc := 6) (k := 7) C dX2_mixRiver_6 rfl q1179 (by decide) rfl ?_
    rw [(riv _ _ g).nr]
    refine r_imulZ (pc := 9) C dX2_mixRiver_9 ?_
    refine r_icmp_geZ (pc := 10) (tgt := 36) C dX2_mixRiver_10 (by decide) (by unfold i32; omega) (by unfold i32; omega) (fun h10 => ?_) (fun h10 => ?_)
    · refine r_iconstZ (pc := 36) C dX2_mixRiver_36 ?_
      refine r_istore_n (pc := 37) C dX2_mixRiver_37 rfl (by decide) ?_
      refine loop2 0 (Nat.zero_le _) _ _ ?_
      obtain rfl : k = 8 * nR d := (by omega)
      rw [rvL_all] at g
      exact (List.append_nil _).symm ▸ g
    · refine r_aload_n (pc := 13) C dX2_mixRiver_13 rfl rfl ?_
      refine r_aload_n (pc := 14) C dX2_mixRiver_14 rfl rfl ?_
      refine r_iload_n (pc := 15) C dX2_mixRiver_15 rfl rfl ?_
      refine r_bipushZ (pc := 16) C dX2_mixRiver_16 (by decide) ?_
      refine r_idivE (pc := 18) C dX2_mixRiver_18 (by unfold i32; omega) (by unfold i32; omega) (by omega) (by omega) ?_
      refine r_iload_n (pc := 19) C dX2_mixRiver_19 rfl rfl ?_
      refine r_bipushZ (pc := 20) C dX2_mixRiver_20 (by decide) ?_
      refine r_iremE (pc := 22) C dX2_mixRiver_22 (by unfold i32; omega) (by unfold i32; omega) (by omega) (by omega) ?_
      refine r_minv (pc := 23) 2 C dX2_mixRiver_23 (mt_simpleNow d (k / 8) ((k % 8 : Nat) : Int) (by omega) (by omega) (riv _ _ g)) rfl (lw_V q1510 q1512 qs60 q92 q1513) (by decide +kernel) rfl rfl ⟨Nat.le_of_ble_eq_true rfl, Nat.le_of_ble_eq_true rfl⟩ (Nat.le_of_ble_eq_true rfl) ⟨Nat.le_of_ble_eq_true rfl, Nat.le_of_ble_eq_true rfl⟩ (fun v23 st23 h23 => ?_)
      obtain ⟨rfl, rfl⟩ := h23
      refine r_i2lW (pc := 26) C dX2_mixRiver_26 ?_
      refine r_minv (pc := 27) 1 C dX2_mixRiver_27 (mt_mix (w32 (sNow d (k / 8) ((k % 8 : Nat) : Int)))) rfl (lw_V q1619 q1621 qs77 q92 q1622) (by decide +kernel) rfl rfl ⟨Nat.le_of_ble_eq_true rfl, Nat.le_of_ble_eq_true rfl⟩ (Nat.le_of_ble_eq_true rfl) ⟨Nat.le_of_ble_eq_true rfl, Nat.le_of_ble_eq_true rfl⟩ (fun v27 st27 h27 => ?_)
      obtain ⟨rfl, rfl⟩ := h27
      refine r_iincZ (pc := 30) C dX2_mixRiver_30 rfl (by decide) ?_
      refine r_goto (pc := 33) (tgt := 2) C dX2_mixRiver_33 (by decide) ?_
      refine ih (by omega) _ ?_
      rw [rvL_s]
      exact g.one
  refine r_iconstZ (pc := 0) C dX2_mixRiver_0 ?_
  refine r_istore_n (pc := 1) C dX2_mixRiver_1 rfl (by decide) ?_
  exact loop1 0 (Nat.zero_le _) _ (Mix.nil _)
theorem rowAll_eq (x : AS) : rowAll x = catN (fun r => rowRoad (x.ws.getD r [])) x.ws.length ++ rowXs x.ws ++ rowRiver x.d ++ rowL (fun k => (x.pg.getD k 0 : Nat)) x.pg.length ++ rowL (fun k => sCount x k) 7 := by
  unfold rowAll rowXs
  simp only [List.append_assoc]
set_option maxHeartbeats 800000 in
theorem mt_digest {la : Launch} {X : XE} {mh : Nat} {mad : Nat → Nat} {G0 : Gh} {st : MSt} (x : AS) (h : MAt st x) : MM la X mh mad G0 yX2_digest cX2_digest 2 (some .long) 5 110 [] st (fun v st' => v = some (.long (lI (sDigest x))) ∧ eqx tq st st') := by
  refine MG.of (by decide +kernel) (Nat.le_of_ble_eq_true rfl) ?_
  intro Z C hX hL hQ
  subst hX; subst hL
  change WW Z 2 (MOD mh mad G0 st) 0 0 0 [some (.ref mh), none] []
  have hl := h.2.1.2.1
  have hp := h.1.2.1
  have mat : ∀ (sti : MSt) (l : List Int), Mix (iput st 34 1549) sti l → MAt sti x := fun sti l g => (h.x (eqx.rf.iput (by decide))).x g.2
  have l3 : ∀ k : Nat, k ≤ 7 → ∀ sti : MSt, Mix (iput st 34 1549) sti ((catN (fun r => rowRoad (x.ws.getD r [])) x.ws.length ++ rowXs x.ws ++ rowRiver x.d ++ rowL (fun k => (x.pg.getD k 0 : Nat)) x.pg.length) ++ rowL (fun k => sCount x k) k) → WW Z 2 (MOD mh mad G0 sti) 0 0 65 [some (.ref mh), some (.int (iI (k : Int)))] [] := by
    refine loopN _ _ (fun k hk ih sti g => ?_)
    refine r_iload_n (pc := 65) C dX2_digest_65 rfl rfl ?_
    refine r_bipushZ (pc := 66) C dX2_digest_66 (by decide) ?_
    refine r_icmp_geZ (pc := 68) (tgt := 87) C dX2_digest_68 (by decide) (by unfold i32; omega) (by unfold i32; omega) (fun h68 => ?_) (fun h68 => ?_)
    · refine r_aload_n (pc := 87) C dX2_digest_87 rfl rfl ?_
      refine r_mget (pc := 88) (k := 34) C dX2_digest_88 rfl q1206 (by decide) rfl ?_
      exact r_lret (pc := 91) C hQ dX2_digest_91 (Nat.le_of_ble_eq_true rfl) (Nat.le_of_ble_eq_true rfl) (fun G hG => ⟨_, hG, ⟨by obtain rfl : k = 7 := (by omega); have q := g.1; rw [← rowAll_eq] at q; rw [q]; rfl, (eqx.rf.iput (by decide)).tr g.2⟩⟩)
    · refine r_aload_n (pc := 71) C dX2_digest_71 rfl rfl ?_
      refine r_aload_n (pc := 72) C dX2_digest_72 rfl rfl ?_
      refine r_iload_n (pc := 73) C dX2_digest_73 rfl rfl ?_
      refine r_minv (pc := 74) 1 C dX2_digest_74 (mt_howMany x (k : Int) (by unfold i32; omega) (mat _ _ g)) rfl (lw_V q1598 q1600 qs73 q92 q1601) (by decide +kernel) rfl rfl ⟨Nat.le_of_ble_eq_true rfl, Nat.le_of_ble_eq_true rfl⟩ (Nat.le_of_ble_eq_true rfl) ⟨Nat.le_of_ble_eq_true rfl, Nat.le_of_ble_eq_true rfl⟩ (fun v74 st74 h74 => ?_)
      obtain ⟨rfl, h74⟩ := h74
      refine r_i2lW (pc := 77) C dX2_digest_77 ?_
      refine r_minv (pc := 78) 1 C dX2_digest_78 (mt_mix (w32 (sCount x k))) rfl (lw_V q1619 q1621 qs77 q92 q1622) (by decide +kernel) rfl rfl ⟨Nat.le_of_ble_eq_true rfl, Nat.le_of_ble_eq_true rfl⟩ (Nat.le_of_ble_eq_true rfl) ⟨Nat.le_of_ble_eq_true rfl, Nat.le_of_ble_eq_true rfl⟩ (fun v78 st78 h78 => ?_)
      obtain ⟨rfl, rfl⟩ := h78
      refine r_iincZ (pc := 81) C dX2_digest_81 rfl (by decide) ?_
      refine r_goto (pc := 84) (tgt := 65) C dX2_digest_84 (by decide) ?_
      exact ih (by omega) _ (g.row h74 (by decide) (by decide) rfl)
  have l2 : ∀ k : Nat, k ≤ x.pg.length → ∀ sti : MSt, Mix (iput st 34 1549) sti ((catN (fun r => rowRoad (x.ws.getD r [])) x.ws.length ++ rowXs x.ws ++ rowRiver x.d) ++ rowL (fun k => (x.pg.getD k 0 : Nat)) k) → WW Z 2 (MOD mh mad G0 sti) 0 0 38 [some (.ref mh), some (.int (iI (k : Int)))] [] := by
    refine loopN _ _ (fun k hk ih sti g => ?_)
    have m1 := (mat _ _ g).1
    refine r_iload_n (pc := 38) C dX2_digest_38 rfl rfl ?_
    refine r_aload_n (pc := 39) C dX2_digest_39 rfl rfl ?_
    refine r_mget (pc := 40) (k := 0) C dX2_digest_40 rfl q1172 (by decide) rfl ?_
    rw [m1.1]
    refine r_icmp_geZ (pc := 43) (tgt := 63) C dX2_digest_43 (by decide) (by unfold i32; omega) (by unfold i32; omega) (fun h43 => ?_) (fun h43 => ?_)
    · refine r_iconstZ (pc := 63) C dX2_digest_63 ?_
      refine r_istore_n (pc := 64) C dX2_digest_64 rfl (by decide) ?_
      refine l3 0 (Nat.zero_le _) _ ?_
      obtain rfl : k = x.pg.length := (by omega)
      exact (List.append_nil _).symm ▸ g
    · refine r_aload_n (pc := 46) C dX2_digest_46 rfl rfl ?_
      refine r_aload_n (pc := 47) C dX2_digest_47 rfl rfl ?_
      refine r_mget (pc := 48) (k := 1) C dX2_digest_48 rfl q1173 (by decide) rfl ?_
      refine r_iload_n (pc := 51) C dX2_digest_51 rfl rfl ?_
      refine r_mald (pc := 52) (L := 20) C dX2_digest_52 (by decide) rfl (by omega) (by omega) ?_
      rw [(m1.2.2 k (by omega)).1]
      refine r_i2lW (pc := 53) C dX2_digest_53 ?_
      refine r_minv (pc := 54) 1 C dX2_digest_54 (mt_mix (w32 (x.pg.getD k 0 : Nat))) rfl (lw_V q1619 q1621 qs77 q92 q1622) (by decide +kernel) rfl rfl ⟨Nat.le_of_ble_eq_true rfl, Nat.le_of_ble_eq_true rfl⟩ (Nat.le_of_ble_eq_true rfl) ⟨Nat.le_of_ble_eq_true rfl, Nat.le_of_ble_eq_true rfl⟩ (fun v54 st54 h54 => ?_)
      obtain ⟨rfl, rfl⟩ := h54
      refine r_iincZ (pc := 57) C dX2_digest_57 rfl (by decide) ?_
      refine r_goto (pc := 60) (tgt := 38) C dX2_digest_60 (by decide) ?_
      exact ih (by omega) _ (g.row (eqx.rf (ks := [])) (by decide) (by decide) rfl)
  have l1 : ∀ k : Nat, k ≤ x.ws.length → ∀ sti : MSt, Mix (iput st 34 1549) sti (catN (fun r => rowRoad (x.ws.getD r [])) k) → WW Z 2 (MOD mh mad G0 sti) 0 0 9 [some (.ref mh), some (.int (iI (k : Int)))] [] := by
    refine loopN _ _ (fun k hk ih sti g => ?_)
    have m1 := mat _ _ g
    refine r_iload_n (pc := 9) C dX2_digest_9 rfl rfl ?_
    refine r_aload_n (pc := 10) C dX2_digest_10 rfl rfl ?_
    refine r_mget (pc := 11) (k := 2) C dX2_digest_11 rfl q1174 (by decide) rfl ?_
    rw [m1.2.1.1]
    refine r_icmp_geZ (pc := 14) (tgt := 28) C dX2_digest_14 (by decide) (by unfold i32; omega) (by unfold i32; omega) (fun h14 => ?_) (fun h14 => ?_)
    · refine r_aload_n (pc := 28) C dX2_digest_28 rfl rfl ?_
      refine r_minv (pc := 29) 0 C dX2_digest_29 (mt_mixCrossings x.ws m1.2.1) rfl (lw_V q1624 q1626 qs78 q92 q1627) (by decide +kernel) rfl rfl ⟨Nat.le_of_ble_eq_true rfl, Nat.le_of_ble_eq_true rfl⟩ (Nat.le_of_ble_eq_true rfl) ⟨Nat.le_of_ble_eq_true rfl, Nat.le_of_ble_eq_true rfl⟩ (fun v29 st29 h29 => ?_)
      obtain ⟨rfl, h29⟩ := h29
      have g1 := g.tr h29
      refine r_aload_n (pc := 32) C dX2_digest_32 rfl rfl ?_
      refine r_minv (pc := 33) 0 C dX2_digest_33 (mt_mixRiver x.d (mat _ _ g1).2.2.1) rfl (lw_V q1628 q1630 qs79 q92 q1631) (by decide +kernel) rfl rfl ⟨Nat.le_of_ble_eq_true rfl, Nat.le_of_ble_eq_true rfl⟩ (Nat.le_of_ble_eq_true rfl) ⟨Nat.le_of_ble_eq_true rfl, Nat.le_of_ble_eq_true rfl⟩ (fun v33 st33 h33 => ?_)
      obtain ⟨rfl, h33⟩ := h33
      have g2 := g1.tr h33
      refine r_iconstZ (pc := 36) C dX2_digest_36 ?_
      refine r_istore_n (pc := 37) C dX2_digest_37 rfl (by decide) ?_
      refine l2 0 (Nat.zero_le _) _ ?_
      obtain rfl : k = x.ws.length := (by omega)
      exact (List.append_nil _).symm ▸ g2
    · refine r_aload_n (pc := 17) C dX2_digest_17 rfl rfl ?_
      refine r_iload_n (pc := 18) C dX2_digest_18 rfl rfl ?_
      refine r_minv (pc := 19) 1 C dX2_digest_19 (mt_mixRoad (k : Int) (x.ws.getD k []) (by omega) (m1.2.1.n (by omega))) rfl (lw_V q1615 q1617 qs76 q92 q1618) (by decide +kernel) rfl rfl ⟨Nat.le_of_ble_eq_true rfl, Nat.le_of_ble_eq_true rfl⟩ (Nat.le_of_ble_eq_true rfl) ⟨Nat.le_of_ble_eq_true rfl, Nat.le_of_ble_eq_true rfl⟩ (fun v19 st19 h19 => ?_)
      obtain ⟨rfl, h19⟩ := h19
      refine r_iincZ (pc := 22) C dX2_digest_22 rfl (by decide) ?_
      refine r_goto (pc := 25) (tgt := 9) C dX2_digest_25 (by decide) ?_
      exact ih (by omega) _ (g.tr h19)
  refine r_aload_n (pc := 0) C dX2_digest_0 rfl rfl ?_
  refine r_ldc2Z (pc := 1) (a := 1549) C dX2_digest_1 rfl q1614 (by decide) ?_
  refine r_mput (pc := 4) (k := 34) (ty := .long) C dX2_digest_4 rfl q1206 (by decide) rfl (by decide +kernel) rfl rfl (ms_34 mad _ _) rfl (Or.inl rfl) ?_
  refine r_iconstZ (pc := 7) C dX2_digest_7 ?_
  refine r_istore_n (pc := 8) C dX2_digest_8 rfl (by decide) ?_
  exact l1 0 (Nat.zero_le _) _ (Mix.nil _)

