/-! the reference's methods: numbers, a word that is looked at -/
set_option maxRecDepth 100000
def iabs (a : Int) : Int := if a < 0 then -a else a
/-- the greatest common divisor, by steps -/
def igcd (a b : Int) : Int := (Int.gcd a b : Nat)
theorem igcd_step {p q : Int} (hp : 0 ≤ p) (hq : 0 < q) : igcd q (p % q) = igcd p q := by
  obtain ⟨P, rfl⟩ := Int.eq_ofNat_of_zero_le hp
  obtain ⟨Q, rfl⟩ := Int.eq_ofNat_of_zero_le (Int.le_of_lt hq)
  show ((Nat.gcd Q (P % Q) : Nat) : Int) = ((Nat.gcd P Q : Nat) : Int)
  rw [Nat.gcd_comm Q, ← Nat.gcd_rec, Nat.gcd_comm]
set_option maxHeartbeats 800000 in
theorem pf_within (v a b : Int) (hv : i32 v) (ha : i32 a) (hb : i32 b) : PF yX2_within cX2_within 3 (some .boolean) 0 0 [.int (iI v), .int (iI a), .int (iI b)] (some (.int (iI (b2 (a ≤ v ∧ v ≤ b))))) := by
  intro l X Γ
  refine MG.of (by decide +kernel) (Nat.le_of_ble_eq_true rfl) ?_
  intro Z C hX hL hQ
  subst hX; subst hL
  change WW Z 3 Γ 0 0 0 [some (.int (iI v)), some (.int (iI a)), some (.int (iI b))] []
  refine r_iload_n (pc := 0) C dX2_within_0 rfl rfl ?_
  refine r_iload_n (pc := 1) C dX2_within_1 rfl rfl ?_
  refine r_icmp_ltZ (pc := 2) (tgt := 14) C dX2_within_2 (by decide) hv ha (fun h2 => ?_) (fun h2 => ?_)
  · refine r_iconstZ (pc := 14) C dX2_within_14 ?_
    exact r_zret (pc := 15) C hQ dX2_within_15 (by first | exact b2_nar _ | decide) (Nat.le_of_ble_eq_true rfl) (Nat.le_of_ble_eq_true rfl) (fun G hG => ⟨hG, (by first | rw [b2_t (by omega)] | rw [b2_f (by omega)])⟩)
  · refine r_iload_n (pc := 5) C dX2_within_5 rfl rfl ?_
    refine r_iload_n (pc := 6) C dX2_within_6 rfl rfl ?_
    refine r_icmp_gtZ (pc := 7) (tgt := 14) C dX2_within_7 (by decide) hv hb (fun h7 => ?_) (fun h7 => ?_)
    · refine r_iconstZ (pc := 14) C dX2_within_14 ?_
      exact r_zret (pc := 15) C hQ dX2_within_15 (by first | exact b2_nar _ | decide) (Nat.le_of_ble_eq_true rfl) (Nat.le_of_ble_eq_true rfl) (fun G hG => ⟨hG, (by first | rw [b2_t (by omega)] | rw [b2_f (by omega)])⟩)
    · refine r_iconstZ (pc := 10) C dX2_within_10 ?_
      refine r_goto (pc := 11) (tgt := 15) C dX2_within_11 (by decide) ?_
      exact r_zret (pc := 15) C hQ dX2_within_15 (by first | exact b2_nar _ | decide) (Nat.le_of_ble_eq_true rfl) (Nat.le_of_ble_eq_true rfl) (fun G hG => ⟨hG, (by first | rw [b2_t (by omega)] | rw [b2_f (by omega)])⟩)
set_option maxHeartbeats 800000 in
theorem pf_abs (a : Int) (ha : i32 a) : PF yX2_abs cX2_abs 1 (some .int) 0 0 [.int (iI a)] (some (.int (iI (iabs a)))) := by
  intro l X Γ
  refine MG.of (by decide +kernel) (Nat.le_of_ble_eq_true rfl) ?_
  intro Z C hX hL hQ
  subst hX; subst hL
  change WW Z 1 Γ 0 0 0 [some (.int (iI a))] []
  refine r_iload_n (pc := 0) C dX2_abs_0 rfl rfl ?_
  refine r_if_geZ (pc := 1) (tgt := 9) C dX2_abs_1 (by decide) ha (fun h1 => ?_) (fun h1 => ?_)
  · refine r_iload_n (pc := 9) C dX2_abs_9 rfl rfl ?_
    exact r_iret (pc := 10) C hQ dX2_abs_10 (Nat.le_of_ble_eq_true rfl) (Nat.le_of_ble_eq_true rfl) (fun G hG => ⟨hG, (by unfold iabs; first | rw [if_pos (by omega)] | rw [if_neg (by omega)])⟩)
  · refine r_iload_n (pc := 4) C dX2_abs_4 rfl rfl ?_
    refine r_inegZ (pc := 5) C dX2_abs_5 ?_
    refine r_goto (pc := 6) (tgt := 10) C dX2_abs_6 (by decide) ?_
    exact r_iret (pc := 10) C hQ dX2_abs_10 (Nat.le_of_ble_eq_true rfl) (Nat.le_of_ble_eq_true rfl) (fun G hG => ⟨hG, (by unfold iabs; first | rw [if_pos (by omega)] | rw [if_neg (by omega)])⟩)
set_option maxHeartbeats 800000 in
theorem pf_codeOf (b : Bool) : PF yX2_codeOf cX2_codeOf 1 (some .int) 0 0 [.int (iI (bi b))] (some (.int (iI (if b then 82 else 76)))) := by
  intro l X Γ
  refine MG.of (by decide +kernel) (Nat.le_of_ble_eq_true rfl) ?_
  intro Z C hX hL hQ
  subst hX; subst hL
  change WW Z 1 Γ 0 0 0 [some (.int (iI (bi b)))] []
  refine r_iload_n (pc := 0) C dX2_codeOf_0 rfl rfl ?_
  refine r_if_neZ (pc := 1) (tgt := 9) C dX2_codeOf_1 (by decide) (by rcases bi_c b with h | h <;> rw [h] <;> unfold i32 <;> omega) (fun h1 => ?_) (fun h1 => ?_)
  · refine r_bipushZ (pc := 9) C dX2_codeOf_9 (by decide) ?_
    exact r_iret (pc := 11) C hQ dX2_codeOf_11 (Nat.le_of_ble_eq_true rfl) (Nat.le_of_ble_eq_true rfl) (fun G hG => ⟨hG, (by cases b <;> first | rfl | (simp [bi] at h1))⟩)
  · refine r_bipushZ (pc := 4) C dX2_codeOf_4 (by decide) ?_
    refine r_goto (pc := 6) (tgt := 11) C dX2_codeOf_6 (by decide) ?_
    exact r_iret (pc := 11) C hQ dX2_codeOf_11 (Nat.le_of_ble_eq_true rfl) (Nat.le_of_ble_eq_true rfl) (fun G hG => ⟨hG, (by cases b <;> first | rfl | (simp [bi] at h1))⟩)
set_option maxHeartbeats 800000 in
theorem pf_discOf (a b c : Int) : PF yX2_discOf cX2_discOf 3 (some .int) 0 0 [.int (iI a), .int (iI b), .int (iI c)] (some (.int (iI (b * b - 4 * a * c)))) := by
  intro l X Γ
  refine MG.of (by decide +kernel) (Nat.le_of_ble_eq_true rfl) ?_
  intro Z C hX hL hQ
  subst hX; subst hL
  change WW Z 3 Γ 0 0 0 [some (.int (iI a)), some (.int (iI b)), some (.int (iI c))] []
  refine r_iload_n (pc := 0) C dX2_discOf_0 rfl rfl ?_
  refine r_iload_n (pc := 1) C dX2_discOf_1 rfl rfl ?_
  refine r_imulZ (pc := 2) C dX2_discOf_2 ?_
  refine r_iconstZ (pc := 3) C dX2_discOf_3 ?_
  refine r_iload_n (pc := 4) C dX2_discOf_4 rfl rfl ?_
  refine r_imulZ (pc := 5) C dX2_discOf_5 ?_
  refine r_iload_n (pc := 6) C dX2_discOf_6 rfl rfl ?_
  refine r_imulZ (pc := 7) C dX2_discOf_7 ?_
  refine r_isubZ (pc := 8) C dX2_discOf_8 ?_
  exact r_iret (pc := 9) C hQ dX2_discOf_9 (Nat.le_of_ble_eq_true rfl) (Nat.le_of_ble_eq_true rfl) (fun G hG => ⟨hG, rfl⟩)
set_option maxHeartbeats 800000 in
theorem pf_common (a b : Int) (ha : i32 a ∧ a ≠ -2147483648) (hb : i32 b ∧ b ≠ -2147483648) : PF yX2_common cX2_common 5 (some .int) 1 20 [.int (iI a), .int (iI b)] (some (.int (iI (igcd a b)))) := by
  intro l X Γ
  refine MG.of (by decide +kernel) (Nat.le_of_ble_eq_true rfl) ?_
  intro Z C hX hL hQ
  subst hX; subst hL
  change WW Z 5 Γ 0 0 0 [some (.int (iI a)), some (.int (iI b)), none, none, none] []
  have loop : ∀ (m : Nat) (p q : Int) (v4 : Option Value), 0 ≤ p → i32 p → 0 ≤ q → i32 q → q.toNat ≤ m → igcd p q = igcd a b → WW Z 5 Γ 0 0 10 [some (.int (iI a)), some (.int (iI b)), some (.int (iI p)), some (.int (iI q)), v4] [] := by
    intro m
    induction m with
    | zero =>
      intro p q v4 hp0 hp hq0 hq hm he
      have e0 : q = 0 := by omega
      subst e0
      refine r_iload_n (pc := 10) C dX2_common_10 rfl rfl ?_
      refine r_if_eqZ (pc := 11) (tgt := 27) C dX2_common_11 (by decide) i32_0 (fun h11 => ?_) (fun h11 => absurd h11 (by omega))
      refine r_iload_n (pc := 27) C dX2_common_27 rfl rfl ?_
      exact r_iret (pc := 28) C hQ dX2_common_28 (Nat.le_of_ble_eq_true rfl) (Nat.le_of_ble_eq_true rfl) (fun G hG => ⟨hG, (by rw [← he]; unfold igcd; rw [Int.gcd_zero_right]; congr 3; omega)⟩)
    | succ m ih =>
      intro p q v4 hp0 hp hq0 hq hm he
      refine r_iload_n (pc := 10) C dX2_common_10 rfl rfl ?_
      refine r_if_eqZ (pc := 11) (tgt := 27) C dX2_common_11 (by decide) hq (fun h11 => ?_) (fun h11 => ?_)
      · refine r_iload_n (pc := 27) C dX2_common_27 rfl rfl ?_
        exact r_iret (pc := 28) C hQ dX2_common_28 (Nat.le_of_ble_eq_true rfl) (Nat.le_of_ble_eq_true rfl) (fun G hG => ⟨hG, (by rw [← he, h11]; unfold igcd; rw [Int.gcd_zero_right]; congr 3; omega)⟩)
      · refine r_iload_n (pc := 14) C dX2_common_14 rfl rfl ?_
        refine r_iload_n (pc := 15) C dX2_common_15 rfl rfl ?_
        refine r_iremE (pc := 16) C dX2_common_16 hp hq hp0 (by omega) ?_
        refine r_istore (pc := 17) C dX2_common_17 (by decide) ?_
        refine r_iload_n (pc := 19) C dX2_common_19 rfl rfl ?_
        refine r_istore_n (pc := 20) C dX2_common_20 rfl (by decide) ?_
        refine r_iload (pc := 21) C dX2_common_21 rfl ?_
        refine r_istore_n (pc := 23) C dX2_common_23 rfl (by decide) ?_
        refine r_goto (pc := 24) (tgt := 10) C dX2_common_24 (by decide) ?_
        have hr0 := Int.emod_nonneg p h11
        have hr1 := Int.emod_lt_of_pos p (show 0 < q by omega)
        exact ih q (p % q) _ hq0 hq hr0 (by unfold i32 at *; omega) (by omega) ((igcd_step hp0 (by omega)).trans he)
  refine r_iload_n (pc := 0) C dX2_common_0 rfl rfl ?_
  refine r_invP (pc := 1) 1 C dX2_common_1 (pf_abs _ ha.1) rfl (lw_S q1405 q1406 q92 q1407) (by decide +kernel) rfl rfl ⟨Nat.le_of_ble_eq_true rfl, Nat.le_of_ble_eq_true rfl⟩ (Nat.le_of_ble_eq_true rfl) ⟨Nat.le_of_ble_eq_true rfl, Nat.le_of_ble_eq_true rfl⟩ ?_
  refine r_istore_n (pc := 4) C dX2_common_4 rfl (by decide) ?_
  refine r_iload_n (pc := 5) C dX2_common_5 rfl rfl ?_
  refine r_invP (pc := 6) 1 C dX2_common_6 (pf_abs _ hb.1) rfl (lw_S q1405 q1406 q92 q1407) (by decide +kernel) rfl rfl ⟨Nat.le_of_ble_eq_true rfl, Nat.le_of_ble_eq_true rfl⟩ (Nat.le_of_ble_eq_true rfl) ⟨Nat.le_of_ble_eq_true rfl, Nat.le_of_ble_eq_true rfl⟩ ?_
  refine r_istore_n (pc := 9) C dX2_common_9 rfl (by decide) ?_
  exact loop (iabs b).toNat (iabs a) (iabs b) none (by unfold i32 at ha; unfold iabs; split <;> omega) (by unfold i32 at ha; unfold iabs i32; split <;> omega) (by unfold i32 at hb; unfold iabs; split <;> omega) (by unfold i32 at hb; unfold iabs i32; split <;> omega) (Nat.le_refl _) (by unfold igcd iabs; split <;> split <;> simp)
set_option maxHeartbeats 800000 in
theorem mt_look {la : Launch} {X : XE} {mh : Nat} {mad : Nat → Nat} {G0 : Gh} {st : MSt} (r : Int) (w : List Bool) (hr : 0 ≤ r ∧ r < 6) (h : RoadIs st r w) : MM la X mh mad G0 yX2_look cX2_look 3 none 0 0 [.int (iI r)] st (fun v st' => v = none ∧ LookAt st' w ∧ eqx [18, 19] st st') := by
  refine MG.of (by decide +kernel) (Nat.le_of_ble_eq_true rfl) ?_
  intro Z C hX hL hQ
  subst hX; subst hL
  change WW Z 3 (MOD mh mad G0 st) 0 0 0 [some (.ref mh), some (.int (iI r)), none] []
  obtain ⟨h1, h2, h3⟩ := h
  have loop : ∀ i : Nat, i ≤ w.length → ∀ sti : MSt, sti.1 18 = w.length → eqx [18, 19] st sti → (∀ j : Nat, j < i → sti.2 19 j = bi (wl w j)) → WW Z 3 (MOD mh mad G0 (sti)) 0 0 12 [some (.ref mh), some (.int (iI r)), some (.int (iI i))] [] := by
    refine loopN _ _ (fun i hi ih sti g1 g2 g3 => ?_)
    refine r_iload_n (pc := 12) C dX2_look_12 rfl rfl ?_
    refine r_aload_n (pc := 13) C dX2_look_13 rfl rfl ?_
    refine r_mget (pc := 14) (k := 18) C dX2_look_14 rfl q1190 (by decide) rfl ?_
    rw [g1]
    refine r_icmp_geZ (pc := 17) (tgt := 43) C dX2_look_17 (by decide) (by unfold i32; omega) (by unfold i32; omega) (fun h17 => ?_) (fun h17 => ?_)
    · exact r_vret (pc := 43) C hQ dX2_look_43 (Nat.le_of_ble_eq_true rfl) (Nat.le_of_ble_eq_true rfl) (fun G hG => ⟨_, hG, ⟨rfl, ⟨g1, h2, fun j hj => g3 j (by omega)⟩, g2⟩⟩)
    · refine r_aload_n (pc := 20) C dX2_look_20 rfl rfl ?_
      refine r_mget (pc := 21) (k := 19) C dX2_look_21 rfl q1191 (by decide) rfl ?_
      refine r_iload_n (pc := 24) C dX2_look_24 rfl rfl ?_
      refine r_aload_n (pc := 25) C dX2_look_25 rfl rfl ?_
      refine r_mget (pc := 26) (k := 4) C dX2_look_26 rfl q1176 (by decide) rfl ?_
      refine r_bipushZ (pc := 29) C dX2_look_29 (by decide) ?_
      refine r_iload_n (pc := 31) C dX2_look_31 rfl rfl ?_
      refine r_imulZ (pc := 32) C dX2_look_32 ?_
      refine r_iload_n (pc := 33) C dX2_look_33 rfl rfl ?_
      refine r_iaddZ (pc := 34) C dX2_look_34 ?_
      refine r_mald (pc := 35) (L := 120) C dX2_look_35 (by decide) rfl (by omega) (by omega) ?_
      rw [(g2 4 (by decide)).2, h3 i (by omega)]
      refine r_mast (pc := 36) (L := 20) C dX2_look_36 (by decide) rfl (by omega) (by omega) ?_
      refine r_iincZ (pc := 37) C dX2_look_37 rfl (by decide) ?_
      refine r_goto (pc := 40) (tgt := 12) C dX2_look_40 (by decide) ?_
      refine ih (by omega) _ g1 (g2.aput (by decide)) (fun j hj => ?_)
      by_cases e : j = i
      · rw [e, aput_eq]
      · rw [aput_nj _ _ _ (by omega)]; exact g3 j (by omega)
  refine r_aload_n (pc := 0) C dX2_look_0 rfl rfl ?_
  refine r_aload_n (pc := 1) C dX2_look_1 rfl rfl ?_
  refine r_mget (pc := 2) (k := 3) C dX2_look_2 rfl q1175 (by decide) rfl ?_
  refine r_iload_n (pc := 5) C dX2_look_5 rfl rfl ?_
  refine r_mald (pc := 6) (L := 6) C dX2_look_6 (by decide) rfl (by omega) (by omega) ?_
  rw [h1]
  refine r_mput (pc := 7) (k := 18) (ty := .int) C dX2_look_7 rfl q1190 (by decide) rfl (by decide +kernel) rfl rfl (ms_18 mad _ _) rfl (Or.inr (by rw [iput_eq]; omega)) ?_
  refine r_iconstZ (pc := 10) C dX2_look_10 ?_
  refine r_istore_n (pc := 11) C dX2_look_11 rfl (by decide) ?_
  exact loop 0 (Nat.zero_le _) _ (by rw [iput_eq]) (eqx.rf.iput (by decide)) (fun j hj => absurd hj (Nat.not_lt_zero _))

