/-! the reference's methods: alike, tables, what is told of a road -/
set_option maxRecDepth 100000
theorem bi_i (b : Bool) : i32 (bi b) := by rcases bi_c b with h | h <;> rw [h] <;> unfold i32 <;> omega
theorem bi_nar (b : Bool) : narrow .boolean (.int (iI (bi b))) = .int (iI (bi b)) := by cases b <;> decide
theorem bi_fit (b : Bool) : fits .boolean (.int (iI (bi b))) = true := by cases b <;> decide
theorem bi_n0 {b : Bool} (h : bi b ≠ 0) : b = true := by cases b; exact absurd rfl h; rfl
theorem OtherAt.lt {st : MSt} {o : List Bool} (h : OtherAt st o) {j : Nat} (hj : j < o.length) : st.2 21 j = bi (wl o j) := h.2.2 j hj
set_option maxHeartbeats 800000 in
theorem mt_turnTo {la : Launch} {X : XE} {mh : Nat} {mad : Nat → Nat} {G0 : Gh} {st : MSt} (w o : List Bool) (h : LookAt st w) (ho : OtherAt st o) : MM la X mh mad G0 yX2_turnTo cX2_turnTo 4 (some .int) 0 0 [] st (fun v st' => v = some (.int (iI (wTurn w o))) ∧ st' = st) := by
  refine MG.of (by decide +kernel) (Nat.le_of_ble_eq_true rfl) ?_
  intro Z C hX hL hQ
  subst hX; subst hL
  change WW Z 4 (MOD mh mad G0 st) 0 0 0 [some (.ref mh), none, none, none] []
  have hcyc := h.cyc h.2.1.1
  obtain ⟨h1, h2, h3⟩ := h
  obtain ⟨o1, o2, o3⟩ := ho
  have fin : ∀ (v2 v3 : Option Value) (b : Int), ¬ (w.length = o.length ∧ wTurnN w o < w.length) → WW Z 4 (MOD mh mad G0 st) 0 0 83 [some (.ref mh), some (.int (iI b)), v2, v3] [] := by
    intro v2 v3 b hno
    refine r_ldcZ (pc := 83) (a := -2000000001) C dX2_turnTo_83 rfl q1370 (by decide) ?_
    exact r_iret (pc := 85) C hQ dX2_turnTo_85 (Nat.le_of_ble_eq_true rfl) (Nat.le_of_ble_eq_true rfl) (fun G hG => ⟨_, hG, ⟨by unfold wTurn; rw [if_neg hno], rfl⟩⟩)
  have loop : ∀ b : Nat, b ≤ w.length → ∀ v2 v3 : Option Value, (∀ j, j < b → allN (fun k => wc w (j + k) == wl o k) w.length = false) → WW Z 4 (MOD mh mad G0 st) 0 0 2 [some (.ref mh), some (.int (iI b)), v2, v3] [] := by
    refine loopN _ _ (fun b hb ih v2 v3 g => ?_)
    have inner : b < w.length → w.length = o.length → ∀ k : Nat, k ≤ w.length → WW Z 4 (MOD mh mad G0 st) 0 0 25 [some (.ref mh), some (.int (iI b)), some (.int (iI (bi (allN (fun k => wc w (b + k) == wl o k) k)))), some (.int (iI k))] [] := by
      intro hbl hlen
      refine loopN _ _ (fun k hk ihk => ?_)
      refine r_iload_n (pc := 25) C dX2_turnTo_25 rfl rfl ?_
      refine r_aload_n (pc := 26) C dX2_turnTo_26 rfl rfl ?_
      refine r_mget (pc := 27) (k := 18) C dX2_turnTo_27 rfl q1190 (by decide) rfl ?_
      rw [h1]
      refine r_icmp_geZ (pc := 30) (tgt := 71) C dX2_turnTo_30 (by decide) (by unfold i32; omega) (by unfold i32; omega) (fun h30 => ?_) (fun h30 => ?_)
      · refine r_iload_n (pc := 71) C dX2_turnTo_71 rfl rfl ?_
        refine r_if_eqZ (pc := 72) (tgt := 77) C dX2_turnTo_72 (by decide) (by rcases bi_c (allN (fun k => wc w (b + k) == wl o k) k) with q | q <;> rw [q] <;> unfold i32 <;> omega) (fun h72 => ?_) (fun h72 => ?_)
        · refine r_iincZ (pc := 77) C dX2_turnTo_77 rfl (by decide) ?_
          refine r_goto (pc := 80) (tgt := 2) C dX2_turnTo_80 (by decide) ?_
          refine ih (by omega) _ _ (fun j hj => ?_)
          by_cases e : j = b
          · rw [e]; rw [show k = w.length by omega] at h72; exact bi_0.mp h72
          · exact g j (by omega)
        · refine r_iload_n (pc := 75) C dX2_turnTo_75 rfl rfl ?_
          exact r_iret (pc := 76) C hQ dX2_turnTo_76 (Nat.le_of_ble_eq_true rfl) (Nat.le_of_ble_eq_true rfl) (fun G hG => ⟨_, hG, ⟨by unfold wTurn; have e : wTurnN w o = b := fstN_eq (by omega) g (fun _ => by rw [show k = w.length by omega] at h72; exact bi_n0 h72); rw [if_pos ⟨by omega, by omega⟩, e], rfl⟩⟩)
      · refine r_iload_n (pc := 33) C dX2_turnTo_33 rfl rfl ?_
        refine r_if_eqZ (pc := 34) (tgt := 63) C dX2_turnTo_34 (by decide) (by rcases bi_c (allN (fun k => wc w (b + k) == wl o k) k) with q | q <;> rw [q] <;> unfold i32 <;> omega) (fun h34 => ?_) (fun h34 => ?_)
        · refine r_iconstZ (pc := 63) C dX2_turnTo_63 ?_
          refine r_istore_n (pc := 64) C dX2_turnTo_64 rfl (by decide) ?_
          refine r_iincZ (pc := 65) C dX2_turnTo_65 rfl (by decide) ?_
          refine r_goto (pc := 68) (tgt := 25) C dX2_turnTo_68 (by decide) ?_
          have ih := ihk (by omega)
          rw [allN_s] at ih
          first | (rw [bi_0.mp h34] at ih; exact ih) | (rw [bi_n0 h34, show (wc w (b + k) == wl o k) = false from beq_eq_false_iff_ne.mpr (fun e => h56 (by rw [e]))] at ih; exact ih) | (rw [bi_n0 h34, show (wc w (b + k) == wl o k) = true from beq_iff_eq.mpr (bi_inj.mp h56)] at ih; exact ih)
        · refine r_aload_n (pc := 37) C dX2_turnTo_37 rfl rfl ?_
          refine r_mget (pc := 38) (k := 19) C dX2_turnTo_38 rfl q1191 (by decide) rfl ?_
          refine r_iload_n (pc := 41) C dX2_turnTo_41 rfl rfl ?_
          refine r_iload_n (pc := 42) C dX2_turnTo_42 rfl rfl ?_
          refine r_iaddZ (pc := 43) C dX2_turnTo_43 ?_
          refine r_aload_n (pc := 44) C dX2_turnTo_44 rfl rfl ?_
          refine r_mget (pc := 45) (k := 18) C dX2_turnTo_45 rfl q1190 (by decide) rfl ?_
          rw [h1]
          refine r_iremE (pc := 48) C dX2_turnTo_48 (by unfold i32; omega) (by unfold i32; omega) (by omega) (by omega) ?_
          refine r_mald (pc := 49) (L := 20) C dX2_turnTo_49 (by decide) rfl (Int.emod_nonneg _ (by omega)) (by have := Int.emod_lt_of_pos ((b : Int) + k) (show (0 : Int) < w.length by omega); omega) ?_
          simp only [hcyc]
          refine r_aload_n (pc := 50) C dX2_turnTo_50 rfl rfl ?_
          refine r_mget (pc := 51) (k := 21) C dX2_turnTo_51 rfl q1193 (by decide) rfl ?_
          refine r_iload_n (pc := 54) C dX2_turnTo_54 rfl rfl ?_
          refine r_mald (pc := 55) (L := 20) C dX2_turnTo_55 (by decide) rfl (by omega) (by omega) ?_
          rw [o3 k (by omega)]
          refine r_icmp_neZ (pc := 56) (tgt := 63) C dX2_turnTo_56 (by decide) (by rcases bi_c (wc w (b + k)) with q | q <;> rw [q] <;> unfold i32 <;> omega) (by rcases bi_c (wl o k) with q | q <;> rw [q] <;> unfold i32 <;> omega) (fun h56 => ?_) (fun h56 => ?_)
          · refine r_iconstZ (pc := 63) C dX2_turnTo_63 ?_
            refine r_istore_n (pc := 64) C dX2_turnTo_64 rfl (by decide) ?_
            refine r_iincZ (pc := 65) C dX2_turnTo_65 rfl (by decide) ?_
            refine r_goto (pc := 68) (tgt := 25) C dX2_turnTo_68 (by decide) ?_
            have ih := ihk (by omega)
            rw [allN_s] at ih
            first | (rw [bi_0.mp h34] at ih; exact ih) | (rw [bi_n0 h34, show (wc w (b + k) == wl o k) = false from beq_eq_false_iff_ne.mpr (fun e => h56 (by rw [e]))] at ih; exact ih) | (rw [bi_n0 h34, show (wc w (b + k) == wl o k) = true from beq_iff_eq.mpr (bi_inj.mp h56)] at ih; exact ih)
          · refine r_iconstZ (pc := 59) C dX2_turnTo_59 ?_
            refine r_goto (pc := 60) (tgt := 64) C dX2_turnTo_60 (by decide) ?_
            refine r_istore_n (pc := 64) C dX2_turnTo_64 rfl (by decide) ?_
            refine r_iincZ (pc := 65) C dX2_turnTo_65 rfl (by decide) ?_
            refine r_goto (pc := 68) (tgt := 25) C dX2_turnTo_68 (by decide) ?_
            have ih := ihk (by omega)
            rw [allN_s] at ih
            first | (rw [bi_0.mp h34] at ih; exact ih) | (rw [bi_n0 h34, show (wc w (b + k) == wl o k) = false from beq_eq_false_iff_ne.mpr (fun e => h56 (by rw [e]))] at ih; exact ih) | (rw [bi_n0 h34, show (wc w (b + k) == wl o k) = true from beq_iff_eq.mpr (bi_inj.mp h56)] at ih; exact ih)
    refine r_iload_n (pc := 2) C dX2_turnTo_2 rfl rfl ?_
    refine r_aload_n (pc := 3) C dX2_turnTo_3 rfl rfl ?_
    refine r_mget (pc := 4) (k := 18) C dX2_turnTo_4 rfl q1190 (by decide) rfl ?_
    rw [h1]
    refine r_icmp_geZ (pc := 7) (tgt := 83) C dX2_turnTo_7 (by decide) (by unfold i32; omega) (by unfold i32; omega) (fun h7 => ?_) (fun h7 => ?_)
    · exact fin _ _ _ (fun q => by have e : wTurnN w o = b ∨ b < w.length := (Nat.lt_or_ge b w.length).elim Or.inr (fun q2 => Or.inl (fstN_eq hb g (fun h => by omega))); omega)
    · refine r_aload_n (pc := 10) C dX2_turnTo_10 rfl rfl ?_
      refine r_mget (pc := 11) (k := 18) C dX2_turnTo_11 rfl q1190 (by decide) rfl ?_
      rw [h1]
      refine r_aload_n (pc := 14) C dX2_turnTo_14 rfl rfl ?_
      refine r_mget (pc := 15) (k := 20) C dX2_turnTo_15 rfl q1192 (by decide) rfl ?_
      rw [o1]
      refine r_icmp_neZ (pc := 18) (tgt := 83) C dX2_turnTo_18 (by decide) (by unfold i32; omega) (by unfold i32; omega) (fun h18 => ?_) (fun h18 => ?_)
      · exact fin _ _ _ (fun q => by have e : wTurnN w o = b ∨ b < w.length := (Nat.lt_or_ge b w.length).elim Or.inr (fun q2 => Or.inl (fstN_eq hb g (fun h => by omega))); omega)
      · refine r_iconstZ (pc := 21) C dX2_turnTo_21 ?_
        refine r_istore_n (pc := 22) C dX2_turnTo_22 rfl (by decide) ?_
        refine r_iconstZ (pc := 23) C dX2_turnTo_23 ?_
        refine r_istore_n (pc := 24) C dX2_turnTo_24 rfl (by decide) ?_
        exact inner (by omega) (by omega) 0 (Nat.zero_le _)
  refine r_iconstZ (pc := 0) C dX2_turnTo_0 ?_
  refine r_istore_n (pc := 1) C dX2_turnTo_1 rfl (by decide) ?_
  exact loop 0 (Nat.zero_le _) _ _ (fun j hj => absurd hj (Nat.not_lt_zero _))
set_option maxHeartbeats 800000 in
theorem mt_layOther {la : Launch} {X : XE} {mh : Nat} {mad : Nat → Nat} {G0 : Gh} {st : MSt} (w : List Bool) (bk mr : Bool) (h : LookAt st w) : MM la X mh mad G0 yX2_layOther cX2_layOther 5 none 0 0 [.int (iI (bi bk)), .int (iI (bi mr))] st (fun v st' => v = none ∧ OtherAt st' (wOther w bk mr) ∧ eqx [20, 21] st st') := by
  refine MG.of (by decide +kernel) (Nat.le_of_ble_eq_true rfl) ?_
  intro Z C hX hL hQ
  subst hX; subst hL
  change WW Z 5 (MOD mh mad G0 st) 0 0 0 [some (.ref mh), some (.int (iI (bi bk))), some (.int (iI (bi mr))), none, none] []
  have hbk : i32 (bi bk) := bi_i bk
  have hmr : i32 (bi mr) := bi_i mr
  have hlen := wOther_len w bk mr
  have hh := h
  obtain ⟨h1, h2, h3⟩ := h
  have loop : ∀ i : Nat, i ≤ w.length → ∀ (sti : MSt) (v4 : Option Value), LookAt sti w → sti.1 20 = w.length → eqx [20, 21] st sti → (∀ j : Nat, j < i → sti.2 21 j = bi (wl (wOther w bk mr) j)) → WW Z 5 (MOD mh mad G0 sti) 0 0 10 [some (.ref mh), some (.int (iI (bi bk))), some (.int (iI (bi mr))), some (.int (iI i)), v4] [] := by
    refine loopN _ _ (fun i hi ih sti v4 g1 g2 g3 g4 => ?_)
    have put : i < w.length → ∀ (v4 : Option Value), WW Z 5 (MOD mh mad G0 sti) 0 0 38 [some (.ref mh), some (.int (iI (bi bk))), some (.int (iI (bi mr))), some (.int (iI i)), v4] [.int (iI ((if bk then w.length - 1 - i else i : Nat) : Int)), .ref (mad 19)] := by
      intro hil v4
      have hoa := wOther_at w bk mr hil
      refine r_mald (pc := 38) (L := 20) C dX2_layOther_38 (by decide) rfl (by omega) (by split <;> omega) ?_
      rw [g1.2.2 _ (by split <;> omega)]
      refine r_istore (pc := 39) C dX2_layOther_39 (by decide) ?_
      refine r_aload_n (pc := 41) C dX2_layOther_41 rfl rfl ?_
      refine r_mget (pc := 42) (k := 21) C dX2_layOther_42 rfl q1193 (by decide) rfl ?_
      refine r_iload_n (pc := 45) C dX2_layOther_45 rfl rfl ?_
      refine r_iload_n (pc := 46) C dX2_layOther_46 rfl rfl ?_
      refine r_if_eqZ (pc := 47) (tgt := 57) C dX2_layOther_47 (by decide) hmr (fun h47 => ?_) (fun h47 => ?_)
      · refine r_iload (pc := 57) C dX2_layOther_57 rfl ?_
        refine r_mast (pc := 59) (L := 20) C dX2_layOther_59 (by decide) rfl (by omega) (by omega) ?_
        refine r_iincZ (pc := 60) C dX2_layOther_60 rfl (by decide) ?_
        refine r_goto (pc := 63) (tgt := 10) C dX2_layOther_63 (by decide) ?_
        refine ih (by omega) _ _ (g1.of rfl (aput_nk _ _ _ (by decide))) g2 (g3.aput (by decide)) (fun j hj => ?_)
        by_cases e : j = i
        · rw [e, aput_eq, hoa]; cases mr <;> cases wl w (if bk then w.length - 1 - i else i) <;> first | rfl | exact absurd rfl h47 | exact absurd h47 (by decide)
        · rw [aput_nj _ _ _ (by omega)]; exact g4 j (by omega)
      · refine r_iconstZ (pc := 50) C dX2_layOther_50 ?_
        refine r_iload (pc := 51) C dX2_layOther_51 rfl ?_
        refine r_isubZ (pc := 53) C dX2_layOther_53 ?_
        refine r_goto (pc := 54) (tgt := 59) C dX2_layOther_54 (by decide) ?_
        refine r_mast (pc := 59) (L := 20) C dX2_layOther_59 (by decide) rfl (by omega) (by omega) ?_
        refine r_iincZ (pc := 60) C dX2_layOther_60 rfl (by decide) ?_
        refine r_goto (pc := 63) (tgt := 10) C dX2_layOther_63 (by decide) ?_
        refine ih (by omega) _ _ (g1.of rfl (aput_nk _ _ _ (by decide))) g2 (g3.aput (by decide)) (fun j hj => ?_)
        by_cases e : j = i
        · rw [e, aput_eq, hoa]; cases mr <;> cases wl w (if bk then w.length - 1 - i else i) <;> first | rfl | exact absurd rfl h47 | exact absurd h47 (by decide)
        · rw [aput_nj _ _ _ (by omega)]; exact g4 j (by omega)
    refine r_iload_n (pc := 10) C dX2_layOther_10 rfl rfl ?_
    refine r_aload_n (pc := 11) C dX2_layOther_11 rfl rfl ?_
    refine r_mget (pc := 12) (k := 18) C dX2_layOther_12 rfl q1190 (by decide) rfl ?_
    rw [g1.1]
    refine r_icmp_geZ (pc := 15) (tgt := 66) C dX2_layOther_15 (by decide) (by unfold i32; omega) (by unfold i32; omega) (fun h15 => ?_) (fun h15 => ?_)
    · exact r_vret (pc := 66) C hQ dX2_layOther_66 (Nat.le_of_ble_eq_true rfl) (Nat.le_of_ble_eq_true rfl) (fun G hG => ⟨_, hG, ⟨rfl, ⟨by rw [hlen]; exact g2, by rw [hlen]; exact h2, fun j hj => g4 j (by omega)⟩, g3⟩⟩)
    · refine r_aload_n (pc := 18) C dX2_layOther_18 rfl rfl ?_
      refine r_mget (pc := 19) (k := 19) C dX2_layOther_19 rfl q1191 (by decide) rfl ?_
      refine r_iload_n (pc := 22) C dX2_layOther_22 rfl rfl ?_
      refine r_if_eqZ (pc := 23) (tgt := 37) C dX2_layOther_23 (by decide) hbk (fun h23 => ?_) (fun h23 => ?_)
      · refine r_iload_n (pc := 37) C dX2_layOther_37 rfl rfl ?_
        first | (obtain rfl : bk = false := bi_0.mp h23; exact put (by omega) _) | (obtain rfl : bk = true := (by cases bk; exact absurd rfl h23; rfl); rw [show (w.length : Int) - 1 - i = ((w.length - 1 - i : Nat) : Int) by omega]; exact put (by omega) _)
      · refine r_aload_n (pc := 26) C dX2_layOther_26 rfl rfl ?_
        refine r_mget (pc := 27) (k := 18) C dX2_layOther_27 rfl q1190 (by decide) rfl ?_
        rw [g1.1]
        refine r_iconstZ (pc := 30) C dX2_layOther_30 ?_
        refine r_isubZ (pc := 31) C dX2_layOther_31 ?_
        refine r_iload_n (pc := 32) C dX2_layOther_32 rfl rfl ?_
        refine r_isubZ (pc := 33) C dX2_layOther_33 ?_
        refine r_goto (pc := 34) (tgt := 38) C dX2_layOther_34 (by decide) ?_
        first | (obtain rfl : bk = false := bi_0.mp h23; exact put (by omega) _) | (obtain rfl : bk = true := (by cases bk; exact absurd rfl h23; rfl); rw [show (w.length : Int) - 1 - i = ((w.length - 1 - i : Nat) : Int) by omega]; exact put (by omega) _)
  refine r_aload_n (pc := 0) C dX2_layOther_0 rfl rfl ?_
  refine r_aload_n (pc := 1) C dX2_layOther_1 rfl rfl ?_
  refine r_mget (pc := 2) (k := 18) C dX2_layOther_2 rfl q1190 (by decide) rfl ?_
  rw [h1]
  refine r_mput (pc := 5) (k := 20) (ty := .int) C dX2_layOther_5 rfl q1192 (by decide) rfl (by decide +kernel) rfl rfl (ms_20 mad _ _) rfl (Or.inl rfl) ?_
  refine r_iconstZ (pc := 8) C dX2_layOther_8 ?_
  refine r_istore_n (pc := 9) C dX2_layOther_9 rfl (by decide) ?_
  exact loop 0 (Nat.zero_le _) _ _ (hh.of rfl rfl) (by rw [iput_eq]) (eqx.rf.iput (by decide)) (fun j hj => absurd hj (Nat.not_lt_zero _))

