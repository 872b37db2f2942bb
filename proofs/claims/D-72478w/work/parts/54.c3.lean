/-! the component: texts are read -/
set_option maxRecDepth 100000
/-- a Reader: its place, its word -/
def RDR (G0 : Gh) (a s : Nat) (p : Nat) (u : List Bool) (G : Gh) : Prop := G a = some (12, .inl (3, [.ref s, .int (iI (p : Int))])) ∧ SB G s 9 (txt u) 20 ∧ FR [9, 12] G0 G
theorem RDR.up {G0 : Gh} {a s p p' : Nat} {u : List Bool} {G : Gh} (h : RDR G0 a s p u G) : RDR G0 a s p' u (gup G a (12, .inl (3, [.ref s, .int (iI (p' : Int))]))) :=
  ⟨gup_eq _ _ _, h.2.1.fr (FR.up (ts := [12]) h.1 (by decide) 12) (by decide), h.2.2.tr (FR.up h.1 (by decide) 12)⟩
theorem RDR.wd {G0 : Gh} {a s p : Nat} {u u' : List Bool} {G G' : Gh} (h : RDR G0 a s p u G) (h1 : SB G' s 9 (txt u') 20) (h2 : FR [9] G G') : RDR G0 a s p u' G' :=
  ⟨h2 _ _ h.1 (by simp), h1, h.2.2.tr (h2.wk (fun t ht => by simp at ht; simp [ht]))⟩
/-- where the reading stands -/
def RdI (pg : List Nat) (p : Nat) (u : List Bool) (may : Bool) : Prop := p ≤ pg.length ∧ rd pg = (p + (rdAll (pg.drop p) (u, may)).1, (rdAll (pg.drop p) (u, may)).2) ∧ (may = true ↔ 0 < p ∧ (tl pg (p - 1) = 76 ∨ tl pg (p - 1) = 82)) ∧ (may = true → 0 < u.length) ∧ u.length ≤ 20
theorem RdI.zero (pg : List Nat) : RdI pg 0 [] false := ⟨Nat.zero_le _, by rw [Nat.zero_add]; rfl, by simp, by simp, by simp⟩
theorem drop_tl {pg : List Nat} {p : Nat} (h : p < pg.length) : pg.drop p = tl pg p :: pg.drop (p + 1) := by
  rw [List.drop_eq_getElem_cons h]
  congr 1
  unfold tl
  rw [List.getD_eq_getElem?_getD, List.getElem?_eq_getElem h]
  rfl
theorem RdI.yes {pg : List Nat} {p : Nat} {u u' : List Bool} {may may' : Bool} (h : RdI pg p u may) (hp : p < pg.length) (hs : rdStep (u, may) (tl pg p) = some (u', may')) (hm : may' = true ↔ (tl pg p = 76 ∨ tl pg p = 82)) (hu : 0 < u'.length) (hl : u'.length ≤ 20) : RdI pg (p + 1) u' may' := by
  obtain ⟨h1, h2, h3, h4, h5⟩ := h
  refine ⟨hp, ?_, ?_, fun _ => hu, hl⟩
  · rw [h2, drop_tl hp]
    have e : rdAll (tl pg p :: pg.drop (p + 1)) (u, may) = ((rdAll (pg.drop (p + 1)) (u', may')).1 + 1, (rdAll (pg.drop (p + 1)) (u', may')).2) := by
      show (match rdStep (u, may) (tl pg p) with | none => (0, u) | some s' => ((rdAll (pg.drop (p + 1)) s').1 + 1, (rdAll (pg.drop (p + 1)) s').2)) = _
      rw [hs]
    rw [e]
    show (p + ((rdAll (pg.drop (p + 1)) (u', may')).1 + 1), _) = (p + 1 + (rdAll (pg.drop (p + 1)) (u', may')).1, _)
    congr 1
    omega
  · rw [Nat.add_sub_cancel, hm]
    constructor
    · intro q; exact ⟨by omega, q⟩
    · intro q; exact q.2
theorem RdI.no {pg : List Nat} {p : Nat} {u : List Bool} {may : Bool} (h : RdI pg p u may) (hp : p < pg.length) (hs : rdStep (u, may) (tl pg p) = none) : rd pg = (p, u) := by
  obtain ⟨h1, h2, h3, h4, h5⟩ := h
  rw [h2, drop_tl hp]
  have e : rdAll (tl pg p :: pg.drop (p + 1)) (u, may) = (0, u) := by
    show (match rdStep (u, may) (tl pg p) with | none => (0, u) | some s' => ((rdAll (pg.drop (p + 1)) s').1 + 1, (rdAll (pg.drop (p + 1)) s').2)) = _
    rw [hs]
  rw [e]
  rfl
theorem RdI.fin {pg : List Nat} {u : List Bool} {may : Bool} {p : Nat} (h : RdI pg p u may) (hp : pg.length ≤ p) : rd pg = (p, u) := by
  obtain ⟨h1, h2, h3, h4, h5⟩ := h
  rw [h2, List.drop_of_length_le hp]
  rfl
set_option maxHeartbeats 800000 in
theorem xd_isLetter (c : Int) (hc : i32 c) : PF yX3_isLetter cX3_isLetter 1 (some .boolean) 0 0 [.int (iI c)] (some (.int (iI (b2 (c = 76 ∨ c = 82))))) := by
  intro l X Γ
  refine MG.of (by decide +kernel) (Nat.le_of_ble_eq_true rfl) ?_
  intro Z C hX hL hQ
  subst hX; subst hL
  change WW Z 1 Γ 0 0 0 [some (.int (iI c))] []
  refine r_iload_n (pc := 0) C dX3_isLetter_0 rfl rfl ?_
  refine r_bipushZ (pc := 1) C dX3_isLetter_1 (by decide) ?_
  refine r_icmp_eqZ (pc := 3) (tgt := 12) C dX3_isLetter_3 (by decide) hc (by unfold i32; omega) (fun h3 => ?_) (fun h3 => ?_)
  · refine r_iconstZ (pc := 12) C dX3_isLetter_12 ?_
    refine r_goto (pc := 13) (tgt := 17) C dX3_isLetter_13 (by decide) ?_
    exact r_zret (pc := 17) C hQ dX3_isLetter_17 (by first | exact b2_nar _ | decide) (Nat.le_of_ble_eq_true rfl) (Nat.le_of_ble_eq_true rfl) (fun G hG => ⟨hG, (by first | (rw [b2_t (by omega)]; done) | (rw [b2_f (by omega)]; done))⟩)
  · refine r_iload_n (pc := 6) C dX3_isLetter_6 rfl rfl ?_
    refine r_bipushZ (pc := 7) C dX3_isLetter_7 (by decide) ?_
    refine r_icmp_neZ (pc := 9) (tgt := 16) C dX3_isLetter_9 (by decide) hc (by unfold i32; omega) (fun h9 => ?_) (fun h9 => ?_)
    · refine r_iconstZ (pc := 16) C dX3_isLetter_16 ?_
      exact r_zret (pc := 17) C hQ dX3_isLetter_17 (by first | exact b2_nar _ | decide) (Nat.le_of_ble_eq_true rfl) (Nat.le_of_ble_eq_true rfl) (fun G hG => ⟨hG, (by first | (rw [b2_t (by omega)]; done) | (rw [b2_f (by omega)]; done))⟩)
    · refine r_iconstZ (pc := 12) C dX3_isLetter_12 ?_
      refine r_goto (pc := 13) (tgt := 17) C dX3_isLetter_13 (by decide) ?_
      exact r_zret (pc := 17) C hQ dX3_isLetter_17 (by first | exact b2_nar _ | decide) (Nat.le_of_ble_eq_true rfl) (Nat.le_of_ble_eq_true rfl) (fun G hG => ⟨hG, (by first | (rw [b2_t (by omega)]; done) | (rw [b2_f (by omega)]; done))⟩)
set_option maxHeartbeats 800000 in
theorem xd_takes {la : Launch} {X : XE} {G0 Gb : Gh} {a s p : Nat} {u : List Bool} (b : Bool) (h : RDR Gb a s p u G0) (hl : u.length ≤ 20) : MG la X yX3_takes cX3_takes 3 (some .boolean) (rmk 3 0 0 64) [.ref a, .int (iI (codeB b))] (fun G => G = G0) (fun v G => v = some (.int (iI (b2 (u.length < 20)))) ∧ RDR Gb a s p (if u.length < 20 then u ++ [b] else u) G) := by
  refine MG.of (by decide +kernel) (Nat.le_of_ble_eq_true rfl) ?_
  intro Z C hX hL hQ
  subst hX; subst hL
  change WW Z 3 (fun G => G = G0) 0 0 0 [some (.ref a), some (.int (iI (codeB b))), none] []
  have yes : u.length < 20 → WW Z 3 (fun G => G = G0) 0 0 18 [some (.ref a), some (.int (iI (codeB b))), some (.int (iI 1))] [] := by
    intro hlt
    refine r_iload_n (pc := 18) C dX3_takes_18 rfl rfl ?_
    refine r_if_eqZ (pc := 19) (tgt := 31) C dX3_takes_19 (by decide) (by unfold i32; omega) (fun h19 => absurd h19 (by omega)) (fun h19 => ?_)
    refine r_aload_n (pc := 22) C dX3_takes_22 rfl rfl ?_
    refine r_get (pc := 23) (k := 0) (ci := 3) C dX3_takes_23 (g1 h.1) (show vwC[3]? = some (RX3, TX3, 2) from rfl) in_X3 (by decide) (C.t _ q509) (fun _ h => h) rfl ?_
    refine r_iload_n (pc := 26) C dX3_takes_26 rfl rfl ?_
    refine r_invV (pc := 27) (ci := 9) 1 C dX3_takes_27 (xb_app b h.2.1 (by decide) (by omega)) (gB h.2.1) (show vwC[9]? = some (RJ8, TJ8, 4) from rfl) rfl (lw_V q498 q324 q325 q91 q326) (by decide +kernel) rfl rfl ⟨Nat.le_of_ble_eq_true rfl, Nat.le_of_ble_eq_true rfl⟩ (Nat.le_of_ble_eq_true rfl) ⟨(by first | exact Nat.le_of_ble_eq_true rfl | (dsimp only [rmk]; omega) | omega), (by first | exact Nat.le_of_ble_eq_true rfl | (dsimp only [rmk]; omega) | omega)⟩ (fun v27 G27 h27 => ?_)
    obtain ⟨rfl, r1, r2⟩ := h27
    refine r_pop (pc := 30) C dX3_takes_30 rfl ?_
    refine r_iload_n (pc := 31) C dX3_takes_31 rfl rfl ?_
    exact r_zret (pc := 32) C hQ dX3_takes_32 (by decide) (by first | exact Nat.le_of_ble_eq_true rfl | (dsimp only [rmk]; omega) | omega) (by first | exact Nat.le_of_ble_eq_true rfl | (dsimp only [rmk]; omega) | omega) (fun G hG => (by cases hG; rw [b2_t hlt, if_pos hlt]; exact ⟨rfl, h.wd r1 r2⟩))
  have no : ¬ u.length < 20 → WW Z 3 (fun G => G = G0) 0 0 18 [some (.ref a), some (.int (iI (codeB b))), some (.int (iI 0))] [] := by
    intro hlt
    refine r_iload_n (pc := 18) C dX3_takes_18 rfl rfl ?_
    refine r_if_eqZ (pc := 19) (tgt := 31) C dX3_takes_19 (by decide) (by unfold i32; omega) (fun h19 => ?_) (fun h19 => absurd h19 (by omega))
    refine r_iload_n (pc := 31) C dX3_takes_31 rfl rfl ?_
    exact r_zret (pc := 32) C hQ dX3_takes_32 (by decide) (by first | exact Nat.le_of_ble_eq_true rfl | (dsimp only [rmk]; omega) | omega) (by first | exact Nat.le_of_ble_eq_true rfl | (dsimp only [rmk]; omega) | omega) (fun G hG => (by cases hG; rw [b2_f hlt, if_neg hlt]; exact ⟨rfl, h⟩))
  refine r_aload_n (pc := 0) C dX3_takes_0 rfl rfl ?_
  refine r_get (pc := 1) (k := 0) (ci := 3) C dX3_takes_1 (g1 h.1) (show vwC[3]? = some (RX3, TX3, 2) from rfl) in_X3 (by decide) (C.t _ q509) (fun _ h => h) rfl ?_
  refine r_invV (pc := 4) (ci := 9) 0 C dX3_takes_4 (xb_length h.2.1) (gB h.2.1) (show vwC[9]? = some (RJ8, TJ8, 4) from rfl) rfl (lw_V q497 q316 q317 q91 q318) (by decide +kernel) rfl rfl ⟨Nat.le_of_ble_eq_true rfl, Nat.le_of_ble_eq_true rfl⟩ (Nat.le_of_ble_eq_true rfl) ⟨(by first | exact Nat.le_of_ble_eq_true rfl | (dsimp only [rmk]; omega) | omega), (by first | exact Nat.le_of_ble_eq_true rfl | (dsimp only [rmk]; omega) | omega)⟩ (rd_k ?_)
  refine r_bipushZ (pc := 7) C dX3_takes_7 (by decide) ?_
  refine r_icmp_geZ (pc := 9) (tgt := 16) C dX3_takes_9 (by decide) (by unfold i32; omega) (by unfold i32; omega) (fun h9 => ?_) (fun h9 => ?_)
  · refine r_iconstZ (pc := 16) C dX3_takes_16 ?_
    refine r_istore_n (pc := 17) C dX3_takes_17 rfl (by decide) ?_
    first | exact yes (by omega) | exact no (by omega)
  · refine r_iconstZ (pc := 12) C dX3_takes_12 ?_
    refine r_goto (pc := 13) (tgt := 17) C dX3_takes_13 (by decide) ?_
    refine r_istore_n (pc := 17) C dX3_takes_17 rfl (by decide) ?_
    first | exact yes (by omega) | exact no (by omega)
set_option maxHeartbeats 800000 in
theorem xd_isRun {la : Launch} {X : XE} {G0 : Gh} {Gb : Gh} {a s p x m t : Nat} {u : List Bool} {pg : Tx} (h : RDR Gb a s p u G0) (hp : SB G0 x t pg m) (hlt : p < pg.length) (hm : pg.length ≤ 20) : MG la X yX3_isRun cX3_isRun 2 (some .boolean) (rmk 4 0 0 88) [.ref a, .ref x] (fun G => G = G0) (fun zv G => zv = some (.int (iI (b2 ((50 ≤ tl pg p ∧ tl pg p ≤ 57) ∧ 0 < p ∧ (tl pg (p - 1) = 76 ∨ tl pg (p - 1) = 82))))) ∧ G = G0) := by
  refine MG.of (by decide +kernel) (Nat.le_of_ble_eq_true rfl) ?_
  intro Z C hX hL hQ
  subst hX; subst hL
  change WW Z 2 (fun G => G = G0) 0 0 0 [some (.ref a), some (.ref x)] []
  have c1 := tl_i hp.1 p
  have c2 := tl_i hp.1 (p - 1)
  refine r_aload_n (pc := 0) C dX3_isRun_0 rfl rfl ?_
  refine r_aload_n (pc := 1) C dX3_isRun_1 rfl rfl ?_
  refine r_get (pc := 2) (k := 1) (ci := 3) C dX3_isRun_2 (g1 h.1) (show vwC[3]? = some (RX3, TX3, 2) from rfl) in_X3 (by decide) (C.t _ q511) (fun _ h => h) rfl ?_
  refine r_invF (pc := 5) (ci := 9) (x2 := ⟨"java/lang/CharSequence", "charAt", "(I)C"⟩) 1 C dX3_isRun_5 (jb_charAt (p : Int) hp ⟨by omega, by omega⟩) (gB hp) (show vwC[9]? = some (RJ8, TJ8, 4) from rfl) rfl (lw_F q464 q479 q481 q91 q483) (by decide +kernel) (by decide +kernel) rfl rfl ⟨Nat.le_of_ble_eq_true rfl, Nat.le_of_ble_eq_true rfl⟩ (Nat.le_of_ble_eq_true rfl) ⟨Nat.le_of_ble_eq_true rfl, Nat.le_of_ble_eq_true rfl⟩ (rd_k ?_)
  rw [show ((p : Int)).toNat = p from rfl]
  refine r_bipushZ (pc := 10) C dX3_isRun_10 (by decide) ?_
  refine r_isubZ (pc := 12) C dX3_isRun_12 ?_
  refine r_iconstZ (pc := 13) C dX3_isRun_13 ?_
  refine r_bipushZ (pc := 14) C dX3_isRun_14 (by decide) ?_
  refine r_invSN (pc := 16) (host := "RiverWords") 3 C dX3_isRun_16 (xf_in ((tl pg p : Nat) - 48 : Int) 2 9 (by unfold i32; omega) (by unfold i32; omega) (by unfold i32; omega) _ _ _) rfl (by decide +kernel) (lw_meth q313) q81 q312 (by decide +kernel) rfl rfl ⟨Nat.le_of_ble_eq_true rfl, Nat.le_of_ble_eq_true rfl⟩ (Nat.le_of_ble_eq_true rfl) ⟨Nat.le_of_ble_eq_true rfl, Nat.le_of_ble_eq_true rfl⟩ (pu_k ?_)
  refine r_if_eqB (pc := 19) (tgt := 51) C dX3_isRun_19 (by decide)  (fun h19 => ?_) (fun h19 => ?_)
  · refine r_iconstZ (pc := 51) C dX3_isRun_51 ?_
    exact r_zret (pc := 52) C hQ dX3_isRun_52 (by decide) (Nat.le_of_ble_eq_true rfl) (Nat.le_of_ble_eq_true rfl) (fun G hG => ⟨(by first | (rw [b2_t (by omega)]; done) | (rw [b2_f (by omega)]; done)), hG⟩)
  · refine r_aload_n (pc := 22) C dX3_isRun_22 rfl rfl ?_
    refine r_get (pc := 23) (k := 1) (ci := 3) C dX3_isRun_23 (g1 h.1) (show vwC[3]? = some (RX3, TX3, 2) from rfl) in_X3 (by decide) (C.t _ q511) (fun _ h => h) rfl ?_
    refine r_if_leZ (pc := 26) (tgt := 51) C dX3_isRun_26 (by decide) (by unfold i32; omega) (fun h26 => ?_) (fun h26 => ?_)
    · refine r_iconstZ (pc := 51) C dX3_isRun_51 ?_
      exact r_zret (pc := 52) C hQ dX3_isRun_52 (by decide) (Nat.le_of_ble_eq_true rfl) (Nat.le_of_ble_eq_true rfl) (fun G hG => ⟨(by first | (rw [b2_t (by omega)]; done) | (rw [b2_f (by omega)]; done)), hG⟩)
    · refine r_aload_n (pc := 29) C dX3_isRun_29 rfl rfl ?_
      refine r_aload_n (pc := 30) C dX3_isRun_30 rfl rfl ?_
      refine r_get (pc := 31) (k := 1) (ci := 3) C dX3_isRun_31 (g1 h.1) (show vwC[3]? = some (RX3, TX3, 2) from rfl) in_X3 (by decide) (C.t _ q511) (fun _ h => h) rfl ?_
      refine r_iconstZ (pc := 34) C dX3_isRun_34 ?_
      refine r_isubZ (pc := 35) C dX3_isRun_35 ?_
      refine r_invF (pc := 36) (ci := 9) (x2 := ⟨"java/lang/CharSequence", "charAt", "(I)C"⟩) 1 C dX3_isRun_36 (jb_charAt ((p : Int) - 1) hp ⟨by omega, by omega⟩) (gB hp) (show vwC[9]? = some (RJ8, TJ8, 4) from rfl) rfl (lw_F q464 q479 q481 q91 q483) (by decide +kernel) (by decide +kernel) rfl rfl ⟨Nat.le_of_ble_eq_true rfl, Nat.le_of_ble_eq_true rfl⟩ (Nat.le_of_ble_eq_true rfl) ⟨Nat.le_of_ble_eq_true rfl, Nat.le_of_ble_eq_true rfl⟩ (rd_k ?_)
      rw [show ((p : Int) - 1).toNat = p - 1 by omega]
      refine r_invP (pc := 41) 1 C dX3_isRun_41 (xd_isLetter (tl pg (p - 1) : Nat) (by unfold i32; omega)) rfl (lw_S q490 q491 q97 q492) (by decide +kernel) rfl rfl ⟨Nat.le_of_ble_eq_true rfl, Nat.le_of_ble_eq_true rfl⟩ (Nat.le_of_ble_eq_true rfl) ⟨Nat.le_of_ble_eq_true rfl, Nat.le_of_ble_eq_true rfl⟩ ?_
      refine r_if_eqB (pc := 44) (tgt := 51) C dX3_isRun_44 (by decide)  (fun h44 => ?_) (fun h44 => ?_)
      · refine r_iconstZ (pc := 51) C dX3_isRun_51 ?_
        exact r_zret (pc := 52) C hQ dX3_isRun_52 (by decide) (Nat.le_of_ble_eq_true rfl) (Nat.le_of_ble_eq_true rfl) (fun G hG => ⟨(by first | (rw [b2_t (by omega)]; done) | (rw [b2_f (by omega)]; done)), hG⟩)
      · refine r_iconstZ (pc := 47) C dX3_isRun_47 ?_
        refine r_goto (pc := 48) (tgt := 52) C dX3_isRun_48 (by decide) ?_
        exact r_zret (pc := 52) C hQ dX3_isRun_52 (by decide) (Nat.le_of_ble_eq_true rfl) (Nat.le_of_ble_eq_true rfl) (fun G hG => ⟨(by first | (rw [b2_t (by omega)]; done) | (rw [b2_f (by omega)]; done)), hG⟩)
set_option maxHeartbeats 800000 in
theorem xd_repeats {la : Launch} {X : XE} {G0 Gb : Gh} {a s p : Nat} {u : List Bool} (m : Nat) (h : RDR Gb a s p u G0) (hu : 0 < u.length ∧ u.length ≤ 20) (hm : 2 ≤ m ∧ m ≤ 9) : MG la X yX3_repeats cX3_repeats 4 (some .boolean) (rmk 4 0 0 88) [.ref a, .int (iI (m : Int))] (fun G => G = G0) (fun v G => v = some (.int (iI (b2 (u.length + (m - 1) ≤ 20)))) ∧ RDR Gb a s p (if u.length + (m - 1) ≤ 20 then u ++ List.replicate (m - 1) (wl u (u.length - 1)) else u) G) := by
  refine MG.of (by decide +kernel) (Nat.le_of_ble_eq_true rfl) ?_
  intro Z C hX hL hQ
  subst hX; subst hL
  change WW Z 4 (fun G => G = G0) 0 0 0 [some (.ref a), some (.int (iI (m : Int))), none, none] []
  have yes : u.length + (m - 1) ≤ 20 → WW Z 4 (fun G => G = G0) 0 0 21 [some (.ref a), some (.int (iI (m : Int))), none, none] [.int (iI 1)] := by
    intro hle
    have loop : ∀ k : Nat, k ≤ m - 1 → WW Z 4 (RDR Gb a s p (u ++ List.replicate k (wl u (u.length - 1)))) 0 0 24 [some (.ref a), some (.int (iI (m : Int))), some (.int (iI 1)), some (.int (iI ((k : Int) + 1)))] [] := by
      refine loopN _ _ (fun k hk ih => ?_)
      refine ww_all (fun G1 hG1 => ?_)
      have hlen : (u ++ List.replicate k (wl u (u.length - 1))).length = u.length + k := by rw [List.length_append, List.length_replicate]
      refine r_iload_n (pc := 24) C dX3_repeats_24 rfl rfl ?_
      refine r_iload_n (pc := 25) C dX3_repeats_25 rfl rfl ?_
      refine r_icmp_geZ (pc := 26) (tgt := 63) C dX3_repeats_26 (by decide) (by unfold i32; omega) (by unfold i32; omega) (fun h26 => ?_) (fun h26 => ?_)
      · refine r_iload_n (pc := 63) C dX3_repeats_63 rfl rfl ?_
        exact r_zret (pc := 64) C hQ dX3_repeats_64 (by decide) (by first | exact Nat.le_of_ble_eq_true rfl | (dsimp only [rmk]; omega) | omega) (by first | exact Nat.le_of_ble_eq_true rfl | (dsimp only [rmk]; omega) | omega) (fun G hG => (by cases hG; rw [b2_t hle, if_pos hle]; rw [show k = m - 1 by omega] at hG1; exact ⟨rfl, hG1⟩))
      · refine r_iload_n (pc := 29) C dX3_repeats_29 rfl rfl ?_
        refine r_if_eqZ (pc := 30) (tgt := 63) C dX3_repeats_30 (by decide) (by unfold i32; omega) (fun h30 => absurd h30 (by omega)) (fun h30 => ?_)
        refine r_aload_n (pc := 33) C dX3_repeats_33 rfl rfl ?_
        refine r_get (pc := 34) (k := 0) (ci := 3) C dX3_repeats_34 (g1 hG1.1) (show vwC[3]? = some (RX3, TX3, 2) from rfl) in_X3 (by decide) (C.t _ q509) (fun _ h => h) rfl ?_
        refine r_aload_n (pc := 37) C dX3_repeats_37 rfl rfl ?_
        refine r_get (pc := 38) (k := 0) (ci := 3) C dX3_repeats_38 (g1 hG1.1) (show vwC[3]? = some (RX3, TX3, 2) from rfl) in_X3 (by decide) (C.t _ q509) (fun _ h => h) rfl ?_
        refine r_aload_n (pc := 41) C dX3_repeats_41 rfl rfl ?_
        refine r_get (pc := 42) (k := 0) (ci := 3) C dX3_repeats_42 (g1 hG1.1) (show vwC[3]? = some (RX3, TX3, 2) from rfl) in_X3 (by decide) (C.t _ q509) (fun _ h => h) rfl ?_
        refine r_invV (pc := 45) (ci := 9) 0 C dX3_repeats_45 (xb_length hG1.2.1) (gB hG1.2.1) (show vwC[9]? = some (RJ8, TJ8, 4) from rfl) rfl (lw_V q497 q316 q317 q91 q318) (by decide +kernel) rfl rfl ⟨Nat.le_of_ble_eq_true rfl, Nat.le_of_ble_eq_true rfl⟩ (Nat.le_of_ble_eq_true rfl) ⟨(by first | exact Nat.le_of_ble_eq_true rfl | (dsimp only [rmk]; omega) | omega), (by first | exact Nat.le_of_ble_eq_true rfl | (dsimp only [rmk]; omega) | omega)⟩ (rd_k ?_)
        refine r_iconstZ (pc := 48) C dX3_repeats_48 ?_
        refine r_isubZ (pc := 49) C dX3_repeats_49 ?_
        refine r_invV (pc := 50) (ci := 9) 1 C dX3_repeats_50 (xb_at (((u ++ List.replicate k (wl u (u.length - 1))).length : Nat) - 1 : Int) hG1.2.1 ⟨by omega, by omega⟩) (gB hG1.2.1) (show vwC[9]? = some (RJ8, TJ8, 4) from rfl) rfl (lw_V q508 q481 q1639 q91 q483) (by decide +kernel) rfl rfl ⟨Nat.le_of_ble_eq_true rfl, Nat.le_of_ble_eq_true rfl⟩ (Nat.le_of_ble_eq_true rfl) ⟨(by first | exact Nat.le_of_ble_eq_true rfl | (dsimp only [rmk]; omega) | omega), (by first | exact Nat.le_of_ble_eq_true rfl | (dsimp only [rmk]; omega) | omega)⟩ (rd_k ?_)
        rw [show (((u ++ List.replicate k (wl u (u.length - 1))).length : Nat) - 1 : Int).toNat = u.length + k - 1 by omega, wl_rep u hu.1 k]
        refine r_invV (pc := 53) (ci := 9) 1 C dX3_repeats_53 (xb_app (wl u (u.length - 1)) hG1.2.1 (by decide) (by omega)) (gB hG1.2.1) (show vwC[9]? = some (RJ8, TJ8, 4) from rfl) rfl (lw_V q498 q324 q325 q91 q326) (by decide +kernel) rfl rfl ⟨Nat.le_of_ble_eq_true rfl, Nat.le_of_ble_eq_true rfl⟩ (Nat.le_of_ble_eq_true rfl) ⟨(by first | exact Nat.le_of_ble_eq_true rfl | (dsimp only [rmk]; omega) | omega), (by first | exact Nat.le_of_ble_eq_true rfl | (dsimp only [rmk]; omega) | omega)⟩ (fun v53 G53 h53 => ?_)
        obtain ⟨rfl, r1, r2⟩ := h53
        rw [List.append_assoc, show List.replicate k (wl u (u.length - 1)) ++ [wl u (u.length - 1)] = List.replicate (k + 1) (wl u (u.length - 1)) from List.replicate_succ'.symm] at r1
        refine r_pop (pc := 56) C dX3_repeats_56 rfl ?_
        refine r_iincZ (pc := 57) C dX3_repeats_57 rfl (by decide) ?_
        refine r_goto (pc := 60) (tgt := 24) C dX3_repeats_60 (by decide) ?_
        exact ww_to (fun G hG => by rw [hG]; exact hG1.wd r1 r2) (ih (by omega))
    refine r_istore_n (pc := 21) C dX3_repeats_21 rfl (by decide) ?_
    refine r_iconstZ (pc := 22) C dX3_repeats_22 ?_
    refine r_istore_n (pc := 23) C dX3_repeats_23 rfl (by decide) ?_
    refine ww_to (fun G hG => ?_) (loop 0 (Nat.zero_le _))
    rw [List.replicate_zero, List.append_nil, hG]
    exact h
  have no : ¬ u.length + (m - 1) ≤ 20 → WW Z 4 (fun G => G = G0) 0 0 21 [some (.ref a), some (.int (iI (m : Int))), none, none] [.int (iI 0)] := by
    intro hle
    refine r_istore_n (pc := 21) C dX3_repeats_21 rfl (by decide) ?_
    refine r_iconstZ (pc := 22) C dX3_repeats_22 ?_
    refine r_istore_n (pc := 23) C dX3_repeats_23 rfl (by decide) ?_
    refine r_iload_n (pc := 24) C dX3_repeats_24 rfl rfl ?_
    refine r_iload_n (pc := 25) C dX3_repeats_25 rfl rfl ?_
    refine r_icmp_geZ (pc := 26) (tgt := 63) C dX3_repeats_26 (by decide) (by unfold i32; omega) (by unfold i32; omega) (fun h26 => absurd h26 (by omega)) (fun h26 => ?_)
    refine r_iload_n (pc := 29) C dX3_repeats_29 rfl rfl ?_
    refine r_if_eqZ (pc := 30) (tgt := 63) C dX3_repeats_30 (by decide) (by unfold i32; omega) (fun h30 => ?_) (fun h30 => absurd h30 (by omega))
    refine r_iload_n (pc := 63) C dX3_repeats_63 rfl rfl ?_
    exact r_zret (pc := 64) C hQ dX3_repeats_64 (by decide) (by first | exact Nat.le_of_ble_eq_true rfl | (dsimp only [rmk]; omega) | omega) (by first | exact Nat.le_of_ble_eq_true rfl | (dsimp only [rmk]; omega) | omega) (fun G hG => (by cases hG; rw [b2_f hle, if_neg hle]; exact ⟨rfl, h⟩))
  refine r_aload_n (pc := 0) C dX3_repeats_0 rfl rfl ?_
  refine r_get (pc := 1) (k := 0) (ci := 3) C dX3_repeats_1 (g1 h.1) (show vwC[3]? = some (RX3, TX3, 2) from rfl) in_X3 (by decide) (C.t _ q509) (fun _ h => h) rfl ?_
  refine r_invV (pc := 4) (ci := 9) 0 C dX3_repeats_4 (xb_length h.2.1) (gB h.2.1) (show vwC[9]? = some (RJ8, TJ8, 4) from rfl) rfl (lw_V q497 q316 q317 q91 q318) (by decide +kernel) rfl rfl ⟨Nat.le_of_ble_eq_true rfl, Nat.le_of_ble_eq_true rfl⟩ (Nat.le_of_ble_eq_true rfl) ⟨(by first | exact Nat.le_of_ble_eq_true rfl | (dsimp only [rmk]; omega) | omega), (by first | exact Nat.le_of_ble_eq_true rfl | (dsimp only [rmk]; omega) | omega)⟩ (rd_k ?_)
  refine r_iload_n (pc := 7) C dX3_repeats_7 rfl rfl ?_
  refine r_iaddZ (pc := 8) C dX3_repeats_8 ?_
  refine r_iconstZ (pc := 9) C dX3_repeats_9 ?_
  refine r_isubZ (pc := 10) C dX3_repeats_10 ?_
  refine r_bipushZ (pc := 11) C dX3_repeats_11 (by decide) ?_
  refine r_icmp_gtZ (pc := 13) (tgt := 20) C dX3_repeats_13 (by decide) (by unfold i32; omega) (by unfold i32; omega) (fun h13 => ?_) (fun h13 => ?_)
  · refine r_iconstZ (pc := 20) C dX3_repeats_20 ?_
    first | exact yes (by omega) | exact no (by omega)
  · refine r_iconstZ (pc := 16) C dX3_repeats_16 ?_
    refine r_goto (pc := 17) (tgt := 21) C dX3_repeats_17 (by decide) ?_
    first | exact yes (by omega) | exact no (by omega)
set_option maxHeartbeats 800000 in
theorem xd_init {la : Launch} {X : XE} {G0 : Gh} {a x t m : Nat} {pg : Tx} (h : G0 a = some (12, .inl (3, [.null, .int (iI 0)]))) (hp : SB G0 x t pg m) (ht : t ∉ [9, 12]) (hl : pg.length ≤ 20) : MG la X yX3_init cX3_init 3 none (rmk 5 2 24 111) [.ref a, .ref x] (fun G => G = G0) (fun v G => v = none ∧ ∃ s, RDR G0 a s (rd pg).1 (rd pg).2 G) := by
  refine MG.of (by decide +kernel) (Nat.le_of_ble_eq_true rfl) ?_
  intro Z C hX hL hQ
  subst hX; subst hL
  change WW Z 3 (fun G => G = G0) 0 0 0 [some (.ref a), some (.ref x), none] []
  have out : ∀ (s p : Nat) (u : List Bool), rd pg = (p, u) → WW Z 3 (RDR G0 a s p u) 2 24 124 [some (.ref a), some (.ref x), some (.int (iI 0))] [] := by
    intro s p u e
    exact r_vret (pc := 124) C hQ dX3_init_124 (by first | exact Nat.le_of_ble_eq_true rfl | (dsimp only [rmk]; omega) | omega) (by first | exact Nat.le_of_ble_eq_true rfl | (dsimp only [rmk]; omega) | omega) (fun G hG => ⟨rfl, s, by rw [e]; exact hG⟩)
  have out1 : ∀ (s p : Nat) (u : List Bool), rd pg = (p, u) → WW Z 3 (RDR G0 a s p u) 2 24 124 [some (.ref a), some (.ref x), some (.int (iI 1))] [] := by
    intro s p u e
    exact r_vret (pc := 124) C hQ dX3_init_124 (by first | exact Nat.le_of_ble_eq_true rfl | (dsimp only [rmk]; omega) | omega) (by first | exact Nat.le_of_ble_eq_true rfl | (dsimp only [rmk]; omega) | omega) (fun G hG => ⟨rfl, s, by rw [e]; exact hG⟩)
  have step1 : ∀ (s p : Nat) (u : List Bool) (v2 : Option Value), WW Z 3 (RDR G0 a s (p + 1) u) 2 24 19 [some (.ref a), some (.ref x), some (.int (iI 1))] [] → WW Z 3 (RDR G0 a s p u) 2 24 102 [some (.ref a), some (.ref x), v2] [.int (iI 1)] := by
    intro s p u v2 k
    refine r_istore_n (pc := 102) C dX3_init_102 rfl (by decide) ?_
    refine r_aload_n (pc := 103) C dX3_init_103 rfl rfl ?_
    refine r_dup (pc := 104) C dX3_init_104 rfl ?_
    refine r_get (pc := 105) (k := 1) (ci := 3) C dX3_init_105 (fun G hG => ⟨_, hG.1⟩) (show vwC[3]? = some (RX3, TX3, 2) from rfl) in_X3 (by decide) (C.t _ q511) (fun _ h => h) rfl ?_
    refine r_iload_n (pc := 108) C dX3_init_108 rfl rfl ?_
    refine r_if_eqZ (pc := 109) (tgt := 116) C dX3_init_109 (by decide) (by unfold i32; omega) (fun h109 => absurd h109 (by omega)) (fun h109 => ?_)
    refine r_iconstZ (pc := 112) C dX3_init_112 ?_
    refine r_goto (pc := 113) (tgt := 117) C dX3_init_113 (by decide) ?_
    refine r_iaddZ (pc := 117) C dX3_init_117 ?_
    refine r_put (pc := 118) (k := 1) (ci := 3) (ty := .int) C dX3_init_118 (Γ' := RDR G0 a s (p + 1) u) (fun G hG => ⟨12, by decide, hG.1, hG.up⟩) (show vwC[3]? = some (RX3, TX3, 2) from rfl) in_X3 tyX3 tyX3_ok nmX3 (by decide) (C.t _ q511) (fun _ h => h) rfl (by decide +kernel) rfl rfl (Nat.le_of_ble_eq_true rfl) ?_
    refine r_goto (pc := 121) (tgt := 19) C dX3_init_121 (by decide) ?_
    exact k
  have step0 : ∀ (s p : Nat) (u : List Bool) (v2 : Option Value), rd pg = (p, u) → WW Z 3 (RDR G0 a s p u) 2 24 102 [some (.ref a), some (.ref x), v2] [.int (iI 0)] := by
    intro s p u v2 e
    have last : WW Z 3 (RDR G0 a s p u) 2 24 19 [some (.ref a), some (.ref x), some (.int (iI 0))] [] := by
      refine r_iload_n (pc := 19) C dX3_init_19 rfl rfl ?_
      refine r_if_eqZ (pc := 20) (tgt := 124) C dX3_init_20 (by decide) (by unfold i32; omega) (fun h20 => ?_) (fun h20 => absurd h20 (by omega))
      exact out s p u e
    refine r_istore_n (pc := 102) C dX3_init_102 rfl (by decide) ?_
    refine r_aload_n (pc := 103) C dX3_init_103 rfl rfl ?_
    refine r_dup (pc := 104) C dX3_init_104 rfl ?_
    refine r_get (pc := 105) (k := 1) (ci := 3) C dX3_init_105 (fun G hG => ⟨_, hG.1⟩) (show vwC[3]? = some (RX3, TX3, 2) from rfl) in_X3 (by decide) (C.t _ q511) (fun _ h => h) rfl ?_
    refine r_iload_n (pc := 108) C dX3_init_108 rfl rfl ?_
    refine r_if_eqZ (pc := 109) (tgt := 116) C dX3_init_109 (by decide) (by unfold i32; omega) (fun h109 => ?_) (fun h109 => absurd h109 (by omega))
    refine r_iconstZ (pc := 116) C dX3_init_116 ?_
    refine r_iaddZ (pc := 117) C dX3_init_117 ?_
    rw [Int.add_zero]
    refine r_put (pc := 118) (k := 1) (ci := 3) (ty := .int) C dX3_init_118 (Γ' := RDR G0 a s p u) (fun G hG => ⟨12, by decide, hG.1, hG.up⟩) (show vwC[3]? = some (RX3, TX3, 2) from rfl) in_X3 tyX3 tyX3_ok nmX3 (by decide) (C.t _ q511) (fun _ h => h) rfl (by decide +kernel) rfl rfl (Nat.le_of_ble_eq_true rfl) ?_
    refine r_goto (pc := 121) (tgt := 19) C dX3_init_121 (by decide) ?_
    exact last
  have loop : ∀ (s d p : Nat) (u : List Bool) (may : Bool), pg.length - p ≤ d → RdI pg p u may → WW Z 3 (RDR G0 a s p u) 2 24 19 [some (.ref a), some (.ref x), some (.int (iI 1))] [] := by
    intro s d
    induction d with
    | zero =>
      intro p u may hd hI
      refine ww_all (fun G1 hG1 => ?_)
      have hp1 := hp.fr hG1.2.2 ht
      have hI1 := hI.1
      refine r_iload_n (pc := 19) C dX3_init_19 rfl rfl ?_
      refine r_if_eqZ (pc := 20) (tgt := 124) C dX3_init_20 (by decide) (by unfold i32; omega) (fun h20 => absurd h20 (by omega)) (fun h20 => ?_)
      refine r_aload_n (pc := 23) C dX3_init_23 rfl rfl ?_
      refine r_get (pc := 24) (k := 1) (ci := 3) C dX3_init_24 (g1 hG1.1) (show vwC[3]? = some (RX3, TX3, 2) from rfl) in_X3 (by decide) (C.t _ q511) (fun _ h => h) rfl ?_
      refine r_aload_n (pc := 27) C dX3_init_27 rfl rfl ?_
      refine r_invF (pc := 28) (ci := 9) (x2 := ⟨"java/lang/CharSequence", "length", "()I"⟩) 0 C dX3_init_28 (jb_length hp1) (gB hp1) (show vwC[9]? = some (RJ8, TJ8, 4) from rfl) rfl (lw_F q446 q460 q316 q91 q318) (by decide +kernel) (by decide +kernel) rfl rfl ⟨Nat.le_of_ble_eq_true rfl, Nat.le_of_ble_eq_true rfl⟩ (Nat.le_of_ble_eq_true rfl) ⟨(by first | exact Nat.le_of_ble_eq_true rfl | (dsimp only [rmk]; omega) | omega), (by first | exact Nat.le_of_ble_eq_true rfl | (dsimp only [rmk]; omega) | omega)⟩ (rd_k ?_)
      refine r_icmp_geZ (pc := 33) (tgt := 124) C dX3_init_33 (by decide) (by unfold i32; omega) (by unfold i32; omega) (fun h33 => ?_) (fun h33 => absurd h33 (by omega))
      exact ww_to (fun G hG => by rw [hG]; exact hG1) (out1 s p u (hI.fin (by omega)))
    | succ d ih =>
      intro p u may hd hI
      refine ww_all (fun G1 hG1 => ?_)
      have hp1 := hp.fr hG1.2.2 ht
      have hI1 := hI.1
      have c1 := tl_i hp.1 p
      have hul := hI.2.2.2.2
      have fail : p < pg.length → ¬ (tl pg p = 76 ∨ tl pg p = 82) → (¬ ((50 ≤ tl pg p ∧ tl pg p ≤ 57) ∧ 0 < p ∧ (tl pg (p - 1) = 76 ∨ tl pg (p - 1) = 82)) ∨ ¬ u.length + (tl pg p - 48 - 1) ≤ 20) → WW Z 3 (fun G => G = G1) 2 24 102 [some (.ref a), some (.ref x), some (.int (iI 1))] [.int (iI 0)] := by
        intro e0 e1 e2
        refine ww_to (fun G hG => by rw [hG]; exact hG1) (step0 s p u _ (hI.no (by omega) (rd_no e1 (fun q => ?_))))
        rcases e2 with e2 | e2
        · exact e2 ⟨⟨q.2.1, q.2.2.1⟩, hI.2.2.1.mp q.1⟩
        · omega
      refine r_iload_n (pc := 19) C dX3_init_19 rfl rfl ?_
      refine r_if_eqZ (pc := 20) (tgt := 124) C dX3_init_20 (by decide) (by unfold i32; omega) (fun h20 => absurd h20 (by omega)) (fun h20 => ?_)
      refine r_aload_n (pc := 23) C dX3_init_23 rfl rfl ?_
      refine r_get (pc := 24) (k := 1) (ci := 3) C dX3_init_24 (g1 hG1.1) (show vwC[3]? = some (RX3, TX3, 2) from rfl) in_X3 (by decide) (C.t _ q511) (fun _ h => h) rfl ?_
      refine r_aload_n (pc := 27) C dX3_init_27 rfl rfl ?_
      refine r_invF (pc := 28) (ci := 9) (x2 := ⟨"java/lang/CharSequence", "length", "()I"⟩) 0 C dX3_init_28 (jb_length hp1) (gB hp1) (show vwC[9]? = some (RJ8, TJ8, 4) from rfl) rfl (lw_F q446 q460 q316 q91 q318) (by decide +kernel) (by decide +kernel) rfl rfl ⟨Nat.le_of_ble_eq_true rfl, Nat.le_of_ble_eq_true rfl⟩ (Nat.le_of_ble_eq_true rfl) ⟨(by first | exact Nat.le_of_ble_eq_true rfl | (dsimp only [rmk]; omega) | omega), (by first | exact Nat.le_of_ble_eq_true rfl | (dsimp only [rmk]; omega) | omega)⟩ (rd_k ?_)
      refine r_icmp_geZ (pc := 33) (tgt := 124) C dX3_init_33 (by decide) (by unfold i32; omega) (by unfold i32; omega) (fun h33 => ?_) (fun h33 => ?_)
      · exact ww_to (fun G hG => by rw [hG]; exact hG1) (out1 s p u (hI.fin (by omega)))
      · refine r_aload_n (pc := 36) C dX3_init_36 rfl rfl ?_
        refine r_aload_n (pc := 37) C dX3_init_37 rfl rfl ?_
        refine r_get (pc := 38) (k := 1) (ci := 3) C dX3_init_38 (g1 hG1.1) (show vwC[3]? = some (RX3, TX3, 2) from rfl) in_X3 (by decide) (C.t _ q511) (fun _ h => h) rfl ?_
        refine r_invF (pc := 41) (ci := 9) (x2 := ⟨"java/lang/CharSequence", "charAt", "(I)C"⟩) 1 C dX3_init_41 (jb_charAt (p : Int) hp1 ⟨by omega, by omega⟩) (gB hp1) (show vwC[9]? = some (RJ8, TJ8, 4) from rfl) rfl (lw_F q464 q479 q481 q91 q483) (by decide +kernel) (by decide +kernel) rfl rfl ⟨Nat.le_of_ble_eq_true rfl, Nat.le_of_ble_eq_true rfl⟩ (Nat.le_of_ble_eq_true rfl) ⟨(by first | exact Nat.le_of_ble_eq_true rfl | (dsimp only [rmk]; omega) | omega), (by first | exact Nat.le_of_ble_eq_true rfl | (dsimp only [rmk]; omega) | omega)⟩ (rd_k ?_)
        rw [show ((p : Int)).toNat = p from rfl]
        refine r_invP (pc := 46) 1 C dX3_init_46 (xd_isLetter (tl pg p : Nat) (by unfold i32; omega)) rfl (lw_S q490 q491 q97 q492) (by decide +kernel) rfl rfl ⟨Nat.le_of_ble_eq_true rfl, Nat.le_of_ble_eq_true rfl⟩ (Nat.le_of_ble_eq_true rfl) ⟨(by first | exact Nat.le_of_ble_eq_true rfl | (dsimp only [rmk]; omega) | omega), (by first | exact Nat.le_of_ble_eq_true rfl | (dsimp only [rmk]; omega) | omega)⟩ ?_
        refine r_if_eqB (pc := 49) (tgt := 69) C dX3_init_49 (by decide)  (fun h49 => ?_) (fun h49 => ?_)
        · refine r_aload_n (pc := 69) C dX3_init_69 rfl rfl ?_
          refine r_aload_n (pc := 70) C dX3_init_70 rfl rfl ?_
          refine r_invV (pc := 71) (ci := 3) 1 C dX3_init_71 (xd_isRun hG1 hp1 (by omega) hl) (g2 hG1.1) (show vwC[3]? = some (RX3, TX3, 2) from rfl) rfl (lw_V q499 q501 qs1 q97 q502) (by decide +kernel) rfl rfl ⟨Nat.le_of_ble_eq_true rfl, Nat.le_of_ble_eq_true rfl⟩ (Nat.le_of_ble_eq_true rfl) ⟨(by first | exact Nat.le_of_ble_eq_true rfl | (dsimp only [rmk]; omega) | omega), (by first | exact Nat.le_of_ble_eq_true rfl | (dsimp only [rmk]; omega) | omega)⟩ (rd_k ?_)
          refine r_if_eqB (pc := 74) (tgt := 101) C dX3_init_74 (by decide)  (fun h74 => ?_) (fun h74 => ?_)
          · refine r_iconstZ (pc := 101) C dX3_init_101 ?_
            first | exact fail (by omega) (by omega) (Or.inl h74) | exact ww_to (fun G hG => by rw [hG]; exact r1) (step0 s p u _ (hI.no (by omega) (rd_no (by omega) (fun q => hle (by omega)))))
          · refine r_aload_n (pc := 77) C dX3_init_77 rfl rfl ?_
            refine r_aload_n (pc := 78) C dX3_init_78 rfl rfl ?_
            refine r_aload_n (pc := 79) C dX3_init_79 rfl rfl ?_
            refine r_get (pc := 80) (k := 1) (ci := 3) C dX3_init_80 (g1 hG1.1) (show vwC[3]? = some (RX3, TX3, 2) from rfl) in_X3 (by decide) (C.t _ q511) (fun _ h => h) rfl ?_
            refine r_invF (pc := 83) (ci := 9) (x2 := ⟨"java/lang/CharSequence", "charAt", "(I)C"⟩) 1 C dX3_init_83 (jb_charAt (p : Int) hp1 ⟨by omega, by omega⟩) (gB hp1) (show vwC[9]? = some (RJ8, TJ8, 4) from rfl) rfl (lw_F q464 q479 q481 q91 q483) (by decide +kernel) (by decide +kernel) rfl rfl ⟨Nat.le_of_ble_eq_true rfl, Nat.le_of_ble_eq_true rfl⟩ (Nat.le_of_ble_eq_true rfl) ⟨(by first | exact Nat.le_of_ble_eq_true rfl | (dsimp only [rmk]; omega) | omega), (by first | exact Nat.le_of_ble_eq_true rfl | (dsimp only [rmk]; omega) | omega)⟩ (rd_k ?_)
            rw [show ((p : Int)).toNat = p from rfl]
            refine r_bipushZ (pc := 88) C dX3_init_88 (by decide) ?_
            refine r_isubZ (pc := 90) C dX3_init_90 ?_
            rw [show ((tl pg p : Nat) : Int) - 48 = ((tl pg p - 48 : Nat) : Int) by omega]
            refine r_invV (pc := 91) (ci := 3) 1 C dX3_init_91 (xd_repeats (tl pg p - 48) hG1 ⟨hI.2.2.2.1 (hI.2.2.1.mpr h74.2), hul⟩ ⟨by omega, by omega⟩) (g2 hG1.1) (show vwC[3]? = some (RX3, TX3, 2) from rfl) rfl (lw_V q504 q506 qs2 q97 q507) (by decide +kernel) rfl rfl ⟨Nat.le_of_ble_eq_true rfl, Nat.le_of_ble_eq_true rfl⟩ (Nat.le_of_ble_eq_true rfl) ⟨(by first | exact Nat.le_of_ble_eq_true rfl | (dsimp only [rmk]; omega) | omega), (by first | exact Nat.le_of_ble_eq_true rfl | (dsimp only [rmk]; omega) | omega)⟩ (fun v91 G91 h91 => ?_)
            obtain ⟨rfl, r1⟩ := h91
            by_cases hle : u.length + (tl pg p - 48 - 1) ≤ 20
            · rw [if_pos hle] at r1; rw [b2_t hle]; refine r_if_eqZ (pc := 94) (tgt := 101) C dX3_init_94 (by decide) (by unfold i32; omega) (fun h94 => absurd h94 (by omega)) (fun h94 => ?_); refine r_iconstZ (pc := 97) C dX3_init_97 ?_; refine r_goto (pc := 98) (tgt := 102) C dX3_init_98 (by decide) ?_; exact ww_to (fun G hG => by rw [hG]; exact r1) (step1 s p _ _ (ih (p + 1) _ false (by omega) (hI.yes (by omega) ((rd_run (by omega) ⟨hI.2.2.1.mpr h74.2, by omega, by omega, by omega⟩).trans (by rw [show tl pg p - 49 = tl pg p - 48 - 1 by omega])) ⟨fun q => (by cases q), fun q => absurd q (by omega)⟩ (by rw [List.length_append, List.length_replicate]; omega) (by rw [List.length_append, List.length_replicate]; omega))))
            rw [if_neg hle] at r1
            rw [b2_f hle]
            refine r_if_eqZ (pc := 94) (tgt := 101) C dX3_init_94 (by decide) (by unfold i32; omega) (fun h94 => ?_) (fun h94 => absurd h94 (by omega))
            refine r_iconstZ (pc := 101) C dX3_init_101 ?_
            first | exact fail (by omega) (by omega) (Or.inl h74) | exact ww_to (fun G hG => by rw [hG]; exact r1) (step0 s p u _ (hI.no (by omega) (rd_no (by omega) (fun q => hle (by omega)))))
        · refine r_aload_n (pc := 52) C dX3_init_52 rfl rfl ?_
          refine r_aload_n (pc := 53) C dX3_init_53 rfl rfl ?_
          refine r_aload_n (pc := 54) C dX3_init_54 rfl rfl ?_
          refine r_get (pc := 55) (k := 1) (ci := 3) C dX3_init_55 (g1 hG1.1) (show vwC[3]? = some (RX3, TX3, 2) from rfl) in_X3 (by decide) (C.t _ q511) (fun _ h => h) rfl ?_
          refine r_invF (pc := 58) (ci := 9) (x2 := ⟨"java/lang/CharSequence", "charAt", "(I)C"⟩) 1 C dX3_init_58 (jb_charAt (p : Int) hp1 ⟨by omega, by omega⟩) (gB hp1) (show vwC[9]? = some (RJ8, TJ8, 4) from rfl) rfl (lw_F q464 q479 q481 q91 q483) (by decide +kernel) (by decide +kernel) rfl rfl ⟨Nat.le_of_ble_eq_true rfl, Nat.le_of_ble_eq_true rfl⟩ (Nat.le_of_ble_eq_true rfl) ⟨(by first | exact Nat.le_of_ble_eq_true rfl | (dsimp only [rmk]; omega) | omega), (by first | exact Nat.le_of_ble_eq_true rfl | (dsimp only [rmk]; omega) | omega)⟩ (rd_k ?_)
          rw [show ((p : Int)).toNat = p from rfl, show ((tl pg p : Nat) : Int) = codeB (decide (tl pg p = 82)) from by rcases (show tl pg p = 76 ∨ tl pg p = 82 by omega) with q | q <;> rw [q] <;> rfl]
          refine r_invV (pc := 63) (ci := 3) 1 C dX3_init_63 (xd_takes (decide (tl pg p = 82)) hG1 hul) (g2 hG1.1) (show vwC[3]? = some (RX3, TX3, 2) from rfl) rfl (lw_V q493 q495 qs0 q97 q496) (by decide +kernel) rfl rfl ⟨Nat.le_of_ble_eq_true rfl, Nat.le_of_ble_eq_true rfl⟩ (Nat.le_of_ble_eq_true rfl) ⟨(by first | exact Nat.le_of_ble_eq_true rfl | (dsimp only [rmk]; omega) | omega), (by first | exact Nat.le_of_ble_eq_true rfl | (dsimp only [rmk]; omega) | omega)⟩ (fun v63 G63 h63 => ?_)
          obtain ⟨rfl, r1⟩ := h63
          by_cases hlt : u.length < 20
          · rw [if_pos hlt] at r1; rw [b2_t hlt]; refine r_goto (pc := 66) (tgt := 102) C dX3_init_66 (by decide) ?_; refine ww_to (fun G hG => by rw [hG]; exact r1) (step1 s p _ _ (ih (p + 1) _ true (by omega) (hI.yes (by omega) (rd_letter (by omega) (by omega)) ⟨fun _ => by omega, fun _ => rfl⟩ (by simp) (by simp; omega))))
          rw [if_neg hlt] at r1
          rw [b2_f hlt]
          refine r_goto (pc := 66) (tgt := 102) C dX3_init_66 (by decide) ?_
          first | exact ww_to (fun G hG => by rw [hG]; exact r1) (step0 s p u _ (hI.no (by omega) (rd_full (by omega) (by omega)))) | exact fail (by omega) (by omega) (by first | exact Or.inl h74 | exact Or.inr (fun q => h94 (by omega)))
  refine r_aload_n (pc := 0) C dX3_init_0 rfl rfl ?_
  refine r_objInit (pc := 1) (own := "") C dX3_init_1 q442 q109 q110 (Nat.le_of_ble_eq_true rfl) (Nat.le_of_ble_eq_true rfl) ?_
  refine r_aload_n (pc := 4) C dX3_init_4 rfl rfl ?_
  refine r_newE (pc := 5) (ci := 9) (fs := [.null, .int (iI 0), .int (iI 0), .int (iI 0)]) 9 C dX3_init_5 (show vwC[9]? = some (RJ8, TJ8, 4) from rfl) in_J8 tyJ8 tyJ8_ok q443 q245 q91 (by decide +kernel) (by first | exact Nat.le_of_ble_eq_true rfl | (dsimp only [rmk]; omega) | omega) (by first | exact Nat.le_of_ble_eq_true rfl | (dsimp only [rmk]; omega) | omega) (fun a5 n5 => ?_)
  refine r_dup (pc := 8) C dX3_init_8 rfl ?_
  refine r_bipushZ (pc := 9) C dX3_init_9 (by decide) ?_
  refine r_invI (pc := 11) 1 C dX3_init_11 (jb_init 20 (gup_eq _ _ _) (by decide) (by omega)) rfl (lw_meth q248) q91 q444 q247 rfl (by decide +kernel) rfl rfl ⟨Nat.le_of_ble_eq_true rfl, Nat.le_of_ble_eq_true rfl⟩ (Nat.le_of_ble_eq_true rfl) ⟨(by first | exact Nat.le_of_ble_eq_true rfl | (dsimp only [rmk]; omega) | omega), (by first | exact Nat.le_of_ble_eq_true rfl | (dsimp only [rmk]; omega) | omega)⟩ (fun v11 G11 h11 => ?_)
  obtain ⟨rfl, q1, q2⟩ := h11
  have q3 := (FR.new (ts := [9]) n5).tr q2
  refine ww_to (Γ' := P1 a 12 3 [.null, .int (iI 0)] G11) (fun G hG => by rw [hG]; exact P1.rf (q3 _ _ h (by decide))) ?_
  refine r_putF (pc := 14) (k := 0) (ci := 3) (ty := .object "java/lang/StringBuilder") C dX3_init_14 (fun G hG => ⟨12, by decide, hG.1, hG.put⟩) (show vwC[3]? = some (RX3, TX3, 2) from rfl) in_X3 tyX3 tyX3_ok nmX3 (by decide) (C.t _ q509) (fun _ h => h) rfl rfl rfl (by decide +kernel) rfl rfl (Nat.le_of_ble_eq_true rfl) ?_
  refine ww_to (Γ' := RDR G0 a a5 0 []) (fun G hG => ⟨hG.1, q1.fr (hG.fr (q3 _ _ h (by decide)) (ts := [12]) (by decide)) (by decide), (q3.wk (by decide)).tr (hG.fr (q3 _ _ h (by decide)) (by decide))⟩) ?_
  refine ww_wide (n' := 2) (s' := 24) (by dsimp only [rmk]; omega) (by dsimp only [rmk]; omega) ?_
  refine r_iconstZ (pc := 17) C dX3_init_17 ?_
  refine r_istore_n (pc := 18) C dX3_init_18 rfl (by decide) ?_
  exact loop a5 pg.length 0 [] false (by omega) (RdI.zero pg)

