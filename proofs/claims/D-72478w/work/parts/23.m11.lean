/-! the reference's methods: forms of a river -/
set_option maxRecDepth 100000
def FormsAt (st : MSt) (l : List Fm) : Prop := st.1 7 = l.length ∧ l.length ≤ 1098 ∧ (∀ f ∈ l, FB f) ∧ ∀ k : Nat, k < l.length → st.2 8 k = (fat l k).1 ∧ st.2 9 k = (fat l k).2.1 ∧ st.2 10 k = (fat l k).2.2
theorem FormsAt.x {ks : List Nat} {st st' : MSt} {l : List Fm} (h : FormsAt st l) (e : eqx ks st st') (h7 : 7 ∉ ks) (h8 : 8 ∉ ks) (h9 : 9 ∉ ks) (h10 : 10 ∉ ks) : FormsAt st' l := ⟨(e 7 h7).1.trans h.1, h.2.1, h.2.2.1, fun k hk => by rw [(e 8 h8).2, (e 9 h9).2, (e 10 h10).2]; exact h.2.2.2 k hk⟩
theorem FormsAt.push {st : MSt} {l : List Fm} (h : FormsAt st l) (hl : l.length < 1098) {f : Fm} (hf : FB f) : FormsAt (iput (aput (aput (aput st 8 (l.length : Int) f.1) 9 (l.length : Int) f.2.1) 10 (l.length : Int) f.2.2) 7 ((l.length : Int) + 1)) (l ++ [f]) := by
  refine ⟨(iput_eq _ _ _).trans (by simp), by simp; omega, fun g hg => ?_, fun k hk => ?_⟩
  · rcases List.mem_append.mp hg with q | q
    · exact h.2.2.1 g q
    · rw [List.mem_singleton.mp q]; exact hf
  · have hk2 : k < l.length + 1 := by simpa using hk
    rw [iput_2]
    by_cases e : k < l.length
    · have e2 : fat (l ++ [f]) k = fat l k := by unfold fat; rw [List.getD_eq_getElem?_getD, List.getElem?_append_left e, List.getD_eq_getElem?_getD]
      rw [e2]
      obtain ⟨a1, a2, a3⟩ := h.2.2.2 k e
      refine ⟨?_, ?_, ?_⟩
      · rw [aput_nk _ _ _ (by decide), aput_nk _ _ _ (by decide), aput_nj _ _ _ (by omega)]; exact a1
      · rw [aput_nk _ _ _ (by decide), aput_nj _ _ _ (by omega), aput_nk _ _ _ (by decide)]; exact a2
      · rw [aput_nj _ _ _ (by omega), aput_nk _ _ _ (by decide), aput_nk _ _ _ (by decide)]; exact a3
    · have e1 : k = l.length := by omega
      subst e1
      have e2 : fat (l ++ [f]) l.length = f := by unfold fat; rw [List.getD_eq_getElem?_getD, List.getElem?_append_right (Nat.le_refl _), Nat.sub_self]; rfl
      rw [e2]
      refine ⟨?_, ?_, ?_⟩
      · rw [aput_nk _ _ _ (by decide), aput_nk _ _ _ (by decide), aput_eq]
      · rw [aput_nk _ _ _ (by decide), aput_eq]
      · rw [aput_eq]
theorem FormsAt.b {st : MSt} {l : List Fm} (h : FormsAt st l) {k : Nat} (hk : k < l.length) : FB (fat l k) := h.2.2.1 _ (fat_mem hk)
def sqB (n : Nat) : Bool := decide (fstN (fun x => decide (n ≤ x * x)) 31 < 31 ∧ fstN (fun x => decide (n ≤ x * x)) 31 * fstN (fun x => decide (n ≤ x * x)) 31 = n)
theorem sqB_n {d : Int} (hd : 0 ≤ d) (h2 : d ≤ 900) (h : sqB d.toNat = false) : ¬ isSq d := by
  rintro ⟨x, hx⟩
  have hy : x.natAbs * x.natAbs = d.toNat := by
    apply Int.ofNat.inj
    show ((x.natAbs * x.natAbs : Nat) : Int) = (d.toNat : Int)
    rw [Int.natAbs_mul_self, Int.toNat_of_nonneg hd, hx]
  have h30 : x.natAbs ≤ 30 := by
    rcases Nat.lt_or_ge x.natAbs 31 with q | q
    · omega
    · have : 31 * 31 ≤ x.natAbs * x.natAbs := Nat.mul_le_mul q q
      omega
  have hs := fstN_spec (fun x => decide (d.toNat ≤ x * x)) 31
  have hle : fstN (fun x => decide (d.toNat ≤ x * x)) 31 ≤ x.natAbs := by
    rcases Nat.lt_or_ge x.natAbs (fstN (fun x => decide (d.toNat ≤ x * x)) 31) with q | q
    · have := of_decide_eq_false (hs.1 _ q)
      omega
    · exact q
  have h3 := of_decide_eq_true (hs.2 (by omega))
  have h4 : fstN (fun x => decide (d.toNat ≤ x * x)) 31 * fstN (fun x => decide (d.toNat ≤ x * x)) 31 ≤ x.natAbs * x.natAbs := Nat.mul_le_mul hle hle
  unfold sqB at h
  exact of_decide_eq_false h ⟨by omega, by omega⟩
set_option maxHeartbeats 800000 in
theorem pf_isSquare (d : Nat) (hd : d ≤ 900) : PF yX2_isSquare cX2_isSquare 2 (some .boolean) 0 0 [.int (iI (d : Int))] (some (.int (iI (bi (sqB d))))) := by
  intro l X Γ
  refine MG.of (by decide +kernel) (Nat.le_of_ble_eq_true rfl) ?_
  intro Z C hX hL hQ
  subst hX; subst hL
  change WW Z 2 Γ 0 0 0 [some (.int (iI (d : Int))), none] []
  have loop : ∀ x : Nat, x ≤ 30 → (∀ j, j < x → j * j < d) → WW Z 2 Γ 0 0 2 [some (.int (iI (d : Int))), some (.int (iI (x : Int)))] [] := by
    refine loopN _ _ (fun x hx ih g => ?_)
    have e : (x : Int) * (x : Int) = ((x * x : Nat) : Int) := (Int.natCast_mul x x).symm
    have hb : x * x ≤ 30 * 30 := Nat.mul_le_mul hx hx
    have fin : d ≤ x * x → fstN (fun x => decide (d ≤ x * x)) 31 = x := fun h => fstN_eq (by omega) (fun j hj => decide_eq_false (by have := g j hj; omega)) (fun _ => decide_eq_true h)
    refine r_iload_n (pc := 2) C dX2_isSquare_2 rfl rfl ?_
    refine r_iload_n (pc := 3) C dX2_isSquare_3 rfl rfl ?_
    refine r_imulZ (pc := 4) C dX2_isSquare_4 ?_
    rw [e]
    refine r_iload_n (pc := 5) C dX2_isSquare_5 rfl rfl ?_
    refine r_icmp_geZ (pc := 6) (tgt := 15) C dX2_isSquare_6 (by decide) (by unfold i32; omega) (by unfold i32; omega) (fun h6 => ?_) (fun h6 => ?_)
    · refine r_iload_n (pc := 15) C dX2_isSquare_15 rfl rfl ?_
      refine r_iload_n (pc := 16) C dX2_isSquare_16 rfl rfl ?_
      refine r_imulZ (pc := 17) C dX2_isSquare_17 ?_
      rw [e]
      refine r_iload_n (pc := 18) C dX2_isSquare_18 rfl rfl ?_
      refine r_icmp_neZ (pc := 19) (tgt := 26) C dX2_isSquare_19 (by decide) (by unfold i32; omega) (by unfold i32; omega) (fun h19 => ?_) (fun h19 => ?_)
      · refine r_iconstZ (pc := 26) C dX2_isSquare_26 ?_
        exact r_zret (pc := 27) C hQ dX2_isSquare_27 (by first | exact b2_nar _ | decide) (Nat.le_of_ble_eq_true rfl) (Nat.le_of_ble_eq_true rfl) (fun G hG => ⟨hG, (by unfold sqB; rw [fin (by omega)]; first | (rw [decide_eq_true ⟨by omega, by omega⟩]; rfl) | (rw [decide_eq_false (by omega)]; rfl))⟩)
      · refine r_iconstZ (pc := 22) C dX2_isSquare_22 ?_
        refine r_goto (pc := 23) (tgt := 27) C dX2_isSquare_23 (by decide) ?_
        exact r_zret (pc := 27) C hQ dX2_isSquare_27 (by first | exact b2_nar _ | decide) (Nat.le_of_ble_eq_true rfl) (Nat.le_of_ble_eq_true rfl) (fun G hG => ⟨hG, (by unfold sqB; rw [fin (by omega)]; first | (rw [decide_eq_true ⟨by omega, by omega⟩]; rfl) | (rw [decide_eq_false (by omega)]; rfl))⟩)
    · refine r_iincZ (pc := 9) C dX2_isSquare_9 rfl (by decide) ?_
      refine r_goto (pc := 12) (tgt := 2) C dX2_isSquare_12 (by decide) ?_
      have hx30 : x < 30 := (by rcases Nat.lt_or_ge x 30 with q | q; exact q; have : 30 * 30 ≤ x * x := Nat.mul_le_mul q q; omega)
      exact ih hx30 (fun j hj => by by_cases e : j = x; rw [e]; omega; exact g j (by omega))
  refine r_iconstZ (pc := 0) C dX2_isSquare_0 ?_
  refine r_istore_n (pc := 1) C dX2_isSquare_1 rfl (by decide) ?_
  exact loop 0 (Nat.zero_le _) (fun j hj => absurd hj (Nat.not_lt_zero _))
set_option maxHeartbeats 800000 in
theorem mt_isRiver {la : Launch} {X : XE} {mh : Nat} {mad : Nat → Nat} {G0 : Gh} {st : MSt} (d : Int) (hd : i32 d) (h : st.1 6 = d) : MM la X mh mad G0 yX2_isRiver cX2_isRiver 1 (some .boolean) 0 0 [] st (fun v st' => v = some (.int (iI (b2 (0 < d)))) ∧ st' = st) := by
  refine MG.of (by decide +kernel) (Nat.le_of_ble_eq_true rfl) ?_
  intro Z C hX hL hQ
  subst hX; subst hL
  change WW Z 1 (MOD mh mad G0 st) 0 0 0 [some (.ref mh)] []
  refine r_aload_n (pc := 0) C dX2_isRiver_0 rfl rfl ?_
  refine r_mget (pc := 1) (k := 6) C dX2_isRiver_1 rfl q1178 (by decide) rfl ?_
  rw [h]
  refine r_if_leZ (pc := 4) (tgt := 11) C dX2_isRiver_4 (by decide) hd (fun h4 => ?_) (fun h4 => ?_)
  · refine r_iconstZ (pc := 11) C dX2_isRiver_11 ?_
    exact r_zret (pc := 12) C hQ dX2_isRiver_12 (by first | exact b2_nar _ | decide) (Nat.le_of_ble_eq_true rfl) (Nat.le_of_ble_eq_true rfl) (fun G hG => ⟨_, hG, ⟨by first | rw [b2_t h4] | rw [b2_f (by omega)], rfl⟩⟩)
  · refine r_iconstZ (pc := 7) C dX2_isRiver_7 ?_
    refine r_goto (pc := 8) (tgt := 12) C dX2_isRiver_8 (by decide) ?_
    exact r_zret (pc := 12) C hQ dX2_isRiver_12 (by first | exact b2_nar _ | decide) (Nat.le_of_ble_eq_true rfl) (Nat.le_of_ble_eq_true rfl) (fun G hG => ⟨_, hG, ⟨by first | rw [b2_t h4] | rw [b2_f (by omega)], rfl⟩⟩)
set_option maxHeartbeats 800000 in
theorem mt_numberOf {la : Launch} {X : XE} {mh : Nat} {mad : Nat → Nat} {G0 : Gh} {st : MSt} (l : List Fm) (x y z : Int) (hx : i32 x) (hy : i32 y) (hz : i32 z) (h : FormsAt st l) : MM la X mh mad G0 yX2_numberOf cX2_numberOf 5 (some .int) 0 0 [.int (iI x), .int (iI y), .int (iI z)] st (fun v st' => v = some (.int (iI (nof l (x, y, z)))) ∧ st' = st) := by
  refine MG.of (by decide +kernel) (Nat.le_of_ble_eq_true rfl) ?_
  intro Z C hX hL hQ
  subst hX; subst hL
  change WW Z 5 (MOD mh mad G0 st) 0 0 0 [some (.ref mh), some (.int (iI x)), some (.int (iI y)), some (.int (iI z)), none] []
  have hl := h.2.1
  have fin : ∀ k : Nat, k ≤ l.length → (∀ j, j < k → fat l j ≠ (x, y, z)) → (k < l.length → fat l k = (x, y, z)) → ix l (x, y, z) = k := fun k hk h1 h2 => fstN_eq hk (fun j hj => decide_eq_false (h1 j hj)) (fun q => decide_eq_true (h2 q))
  have loop : ∀ k : Nat, k ≤ l.length → (∀ j, j < k → fat l j ≠ (x, y, z)) → WW Z 5 (MOD mh mad G0 (st)) 0 0 3 [some (.ref mh), some (.int (iI x)), some (.int (iI y)), some (.int (iI z)), some (.int (iI k))] [] := by
    refine loopN _ _ (fun k hk ih g => ?_)
    refine r_iload (pc := 3) C dX2_numberOf_3 rfl ?_
    refine r_aload_n (pc := 5) C dX2_numberOf_5 rfl rfl ?_
    refine r_mget (pc := 6) (k := 7) C dX2_numberOf_6 rfl q1179 (by decide) rfl ?_
    rw [h.1]
    refine r_icmp_geZ (pc := 9) (tgt := 51) C dX2_numberOf_9 (by decide) (by unfold i32; omega) (by unfold i32; omega) (fun h9 => ?_) (fun h9 => ?_)
    · refine r_iload (pc := 51) C dX2_numberOf_51 rfl ?_
      refine r_aload_n (pc := 53) C dX2_numberOf_53 rfl rfl ?_
      refine r_mget (pc := 54) (k := 7) C dX2_numberOf_54 rfl q1179 (by decide) rfl ?_
      rw [h.1]
      refine r_icmp_geZ (pc := 57) (tgt := 65) C dX2_numberOf_57 (by decide) (by unfold i32; omega) (by unfold i32; omega) (fun h57 => ?_) (fun h57 => ?_)
      · refine r_ldcZ (pc := 65) (a := -2000000001) C dX2_numberOf_65 rfl q1370 (by decide) ?_
        exact r_iret (pc := 67) C hQ dX2_numberOf_67 (Nat.le_of_ble_eq_true rfl) (Nat.le_of_ble_eq_true rfl) (fun G hG => ⟨_, hG, ⟨by unfold nof; first | (exfalso; omega) | (have e := fin k (by omega) g (fun _ => by rw [← h20, ← h31, ← h42]); rw [e, if_pos (by omega)]; done) | (have e := fin k (by omega) g (fun q => absurd q (by omega)); rw [e, if_neg (by omega)]; done), rfl⟩⟩)
      · refine r_iload (pc := 60) C dX2_numberOf_60 rfl ?_
        refine r_goto (pc := 62) (tgt := 67) C dX2_numberOf_62 (by decide) ?_
        exact r_iret (pc := 67) C hQ dX2_numberOf_67 (Nat.le_of_ble_eq_true rfl) (Nat.le_of_ble_eq_true rfl) (fun G hG => ⟨_, hG, ⟨by unfold nof; first | (exfalso; omega) | (have e := fin k (by omega) g (fun _ => by rw [← h20, ← h31, ← h42]); rw [e, if_pos (by omega)]; done) | (have e := fin k (by omega) g (fun q => absurd q (by omega)); rw [e, if_neg (by omega)]; done), rfl⟩⟩)
    · obtain ⟨fa, fb, fc⟩ := h.2.2.2 k (by omega)
      obtain ⟨ba, bb, bc⟩ := h.b (show k < l.length by omega)
      refine r_aload_n (pc := 12) C dX2_numberOf_12 rfl rfl ?_
      refine r_mget (pc := 13) (k := 8) C dX2_numberOf_13 rfl q1180 (by decide) rfl ?_
      refine r_iload (pc := 16) C dX2_numberOf_16 rfl ?_
      refine r_mald (pc := 18) (L := 1200) C dX2_numberOf_18 (by decide) rfl (by omega) (by omega) ?_
      rw [fa]
      refine r_iload_n (pc := 19) C dX2_numberOf_19 rfl rfl ?_
      refine r_icmp_neZ (pc := 20) (tgt := 45) C dX2_numberOf_20 (by decide) (by unfold i32; omega) hx (fun h20 => ?_) (fun h20 => ?_)
      · refine r_iincZ (pc := 45) C dX2_numberOf_45 rfl (by decide) ?_
        refine r_goto (pc := 48) (tgt := 3) C dX2_numberOf_48 (by decide) ?_
        refine ih (by omega) (fun j hj => ?_)
        by_cases e : j = k
        · subst e; intro q; first | exact h20 (by rw [q]) | exact h31 (by rw [q]) | exact h42 (by rw [q])
        · exact g j (by omega)
      · refine r_aload_n (pc := 23) C dX2_numberOf_23 rfl rfl ?_
        refine r_mget (pc := 24) (k := 9) C dX2_numberOf_24 rfl q1181 (by decide) rfl ?_
        refine r_iload (pc := 27) C dX2_numberOf_27 rfl ?_
        refine r_mald (pc := 29) (L := 1200) C dX2_numberOf_29 (by decide) rfl (by omega) (by omega) ?_
        rw [fb]
        refine r_iload_n (pc := 30) C dX2_numberOf_30 rfl rfl ?_
        refine r_icmp_neZ (pc := 31) (tgt := 45) C dX2_numberOf_31 (by decide) (by unfold i32; omega) hy (fun h31 => ?_) (fun h31 => ?_)
        · refine r_iincZ (pc := 45) C dX2_numberOf_45 rfl (by decide) ?_
          refine r_goto (pc := 48) (tgt := 3) C dX2_numberOf_48 (by decide) ?_
          refine ih (by omega) (fun j hj => ?_)
          by_cases e : j = k
          · subst e; intro q; first | exact h20 (by rw [q]) | exact h31 (by rw [q]) | exact h42 (by rw [q])
          · exact g j (by omega)
        · refine r_aload_n (pc := 34) C dX2_numberOf_34 rfl rfl ?_
          refine r_mget (pc := 35) (k := 10) C dX2_numberOf_35 rfl q1182 (by decide) rfl ?_
          refine r_iload (pc := 38) C dX2_numberOf_38 rfl ?_
          refine r_mald (pc := 40) (L := 1200) C dX2_numberOf_40 (by decide) rfl (by omega) (by omega) ?_
          rw [fc]
          refine r_iload_n (pc := 41) C dX2_numberOf_41 rfl rfl ?_
          refine r_icmp_eqZ (pc := 42) (tgt := 51) C dX2_numberOf_42 (by decide) (by unfold i32; omega) hz (fun h42 => ?_) (fun h42 => ?_)
          · refine r_iload (pc := 51) C dX2_numberOf_51 rfl ?_
            refine r_aload_n (pc := 53) C dX2_numberOf_53 rfl rfl ?_
            refine r_mget (pc := 54) (k := 7) C dX2_numberOf_54 rfl q1179 (by decide) rfl ?_
            rw [h.1]
            refine r_icmp_geZ (pc := 57) (tgt := 65) C dX2_numberOf_57 (by decide) (by unfold i32; omega) (by unfold i32; omega) (fun h57 => ?_) (fun h57 => ?_)
            · refine r_ldcZ (pc := 65) (a := -2000000001) C dX2_numberOf_65 rfl q1370 (by decide) ?_
              exact r_iret (pc := 67) C hQ dX2_numberOf_67 (Nat.le_of_ble_eq_true rfl) (Nat.le_of_ble_eq_true rfl) (fun G hG => ⟨_, hG, ⟨by unfold nof; first | (exfalso; omega) | (have e := fin k (by omega) g (fun _ => by rw [← h20, ← h31, ← h42]); rw [e, if_pos (by omega)]; done) | (have e := fin k (by omega) g (fun q => absurd q (by omega)); rw [e, if_neg (by omega)]; done), rfl⟩⟩)
            · refine r_iload (pc := 60) C dX2_numberOf_60 rfl ?_
              refine r_goto (pc := 62) (tgt := 67) C dX2_numberOf_62 (by decide) ?_
              exact r_iret (pc := 67) C hQ dX2_numberOf_67 (Nat.le_of_ble_eq_true rfl) (Nat.le_of_ble_eq_true rfl) (fun G hG => ⟨_, hG, ⟨by unfold nof; first | (exfalso; omega) | (have e := fin k (by omega) g (fun _ => by rw [← h20, ← h31, ← h42]); rw [e, if_pos (by omega)]; done) | (have e := fin k (by omega) g (fun q => absurd q (by omega)); rw [e, if_neg (by omega)]; done), rfl⟩⟩)
          · refine r_iincZ (pc := 45) C dX2_numberOf_45 rfl (by decide) ?_
            refine r_goto (pc := 48) (tgt := 3) C dX2_numberOf_48 (by decide) ?_
            refine ih (by omega) (fun j hj => ?_)
            by_cases e : j = k
            · subst e; intro q; first | exact h20 (by rw [q]) | exact h31 (by rw [q]) | exact h42 (by rw [q])
            · exact g j (by omega)
  refine r_iconstZ (pc := 0) C dX2_numberOf_0 ?_
  refine r_istore (pc := 1) C dX2_numberOf_1 (by decide) ?_
  exact loop 0 (Nat.zero_le _) (fun j hj => absurd hj (Nat.not_lt_zero _))
set_option maxHeartbeats 800000 in
theorem mt_isLeft {la : Launch} {X : XE} {mh : Nat} {mad : Nat → Nat} {G0 : Gh} {st : MSt} (l : List Fm) (k : Nat) (hk : k < l.length) (h : FormsAt st l) : MM la X mh mad G0 yX2_isLeft cX2_isLeft 2 (some .boolean) 0 0 [.int (iI k)] st (fun v st' => v = some (.int (iI (bi (fLeft (fat l k))))) ∧ st' = st) := by
  refine MG.of (by decide +kernel) (Nat.le_of_ble_eq_true rfl) ?_
  intro Z C hX hL hQ
  subst hX; subst hL
  change WW Z 2 (MOD mh mad G0 st) 0 0 0 [some (.ref mh), some (.int (iI k))] []
  have hl := h.2.1
  obtain ⟨fa, fb, fc⟩ := h.2.2.2 k hk
  obtain ⟨ba, bb, bc⟩ := h.b hk
  refine r_aload_n (pc := 0) C dX2_isLeft_0 rfl rfl ?_
  refine r_mget (pc := 1) (k := 8) C dX2_isLeft_1 rfl q1180 (by decide) rfl ?_
  refine r_iload_n (pc := 4) C dX2_isLeft_4 rfl rfl ?_
  refine r_mald (pc := 5) (L := 1200) C dX2_isLeft_5 (by decide) rfl (by omega) (by omega) ?_
  rw [fa]
  refine r_aload_n (pc := 6) C dX2_isLeft_6 rfl rfl ?_
  refine r_mget (pc := 7) (k := 9) C dX2_isLeft_7 rfl q1181 (by decide) rfl ?_
  refine r_iload_n (pc := 10) C dX2_isLeft_10 rfl rfl ?_
  refine r_mald (pc := 11) (L := 1200) C dX2_isLeft_11 (by decide) rfl (by omega) (by omega) ?_
  rw [fb]
  refine r_iaddZ (pc := 12) C dX2_isLeft_12 ?_
  refine r_aload_n (pc := 13) C dX2_isLeft_13 rfl rfl ?_
  refine r_mget (pc := 14) (k := 10) C dX2_isLeft_14 rfl q1182 (by decide) rfl ?_
  refine r_iload_n (pc := 17) C dX2_isLeft_17 rfl rfl ?_
  refine r_mald (pc := 18) (L := 1200) C dX2_isLeft_18 (by decide) rfl (by omega) (by omega) ?_
  rw [fc]
  refine r_iaddZ (pc := 19) C dX2_isLeft_19 ?_
  refine r_if_leZ (pc := 20) (tgt := 27) C dX2_isLeft_20 (by decide) (by unfold i32; omega) (fun h20 => ?_) (fun h20 => ?_)
  · refine r_iconstZ (pc := 27) C dX2_isLeft_27 ?_
    exact r_zret (pc := 28) C hQ dX2_isLeft_28 (by decide) (Nat.le_of_ble_eq_true rfl) (Nat.le_of_ble_eq_true rfl) (fun G hG => ⟨_, hG, ⟨by unfold fLeft; first | (rw [decide_eq_true (by omega)]; rfl) | (rw [decide_eq_false (by omega)]; rfl), rfl⟩⟩)
  · refine r_iconstZ (pc := 23) C dX2_isLeft_23 ?_
    refine r_goto (pc := 24) (tgt := 28) C dX2_isLeft_24 (by decide) ?_
    exact r_zret (pc := 28) C hQ dX2_isLeft_28 (by decide) (Nat.le_of_ble_eq_true rfl) (Nat.le_of_ble_eq_true rfl) (fun G hG => ⟨_, hG, ⟨by unfold fLeft; first | (rw [decide_eq_true (by omega)]; rfl) | (rw [decide_eq_false (by omega)]; rfl), rfl⟩⟩)
set_option maxHeartbeats 800000 in
theorem mt_findNext {la : Launch} {X : XE} {mh : Nat} {mad : Nat → Nat} {G0 : Gh} {st : MSt} (l : List Fm) (k : Nat) (hk : k < l.length) (h : FormsAt st l) : MM la X mh mad G0 yX2_findNext cX2_findNext 3 (some .int) 1 24 [.int (iI k)] st (fun v st' => v = some (.int (iI (nof l (nextF (fat l k))))) ∧ st' = st) := by
  refine MG.of (by decide +kernel) (Nat.le_of_ble_eq_true rfl) ?_
  intro Z C hX hL hQ
  subst hX; subst hL
  change WW Z 3 (MOD mh mad G0 st) 0 0 0 [some (.ref mh), some (.int (iI k)), none] []
  have hl := h.2.1
  obtain ⟨fa, fb, fc⟩ := h.2.2.2 k hk
  obtain ⟨ba, bb, bc⟩ := h.b hk
  refine r_aload_n (pc := 0) C dX2_findNext_0 rfl rfl ?_
  refine r_mget (pc := 1) (k := 8) C dX2_findNext_1 rfl q1180 (by decide) rfl ?_
  refine r_iload_n (pc := 4) C dX2_findNext_4 rfl rfl ?_
  refine r_mald (pc := 5) (L := 1200) C dX2_findNext_5 (by decide) rfl (by omega) (by omega) ?_
  rw [fa]
  refine r_aload_n (pc := 6) C dX2_findNext_6 rfl rfl ?_
  refine r_mget (pc := 7) (k := 9) C dX2_findNext_7 rfl q1181 (by decide) rfl ?_
  refine r_iload_n (pc := 10) C dX2_findNext_10 rfl rfl ?_
  refine r_mald (pc := 11) (L := 1200) C dX2_findNext_11 (by decide) rfl (by omega) (by omega) ?_
  rw [fb]
  refine r_iaddZ (pc := 12) C dX2_findNext_12 ?_
  refine r_aload_n (pc := 13) C dX2_findNext_13 rfl rfl ?_
  refine r_mget (pc := 14) (k := 10) C dX2_findNext_14 rfl q1182 (by decide) rfl ?_
  refine r_iload_n (pc := 17) C dX2_findNext_17 rfl rfl ?_
  refine r_mald (pc := 18) (L := 1200) C dX2_findNext_18 (by decide) rfl (by omega) (by omega) ?_
  rw [fc]
  refine r_iaddZ (pc := 19) C dX2_findNext_19 ?_
  refine r_istore_n (pc := 20) C dX2_findNext_20 rfl (by decide) ?_
  refine r_aload_n (pc := 21) C dX2_findNext_21 rfl rfl ?_
  refine r_iload_n (pc := 22) C dX2_findNext_22 rfl rfl ?_
  refine r_minv (pc := 23) 1 C dX2_findNext_23 (mt_isLeft l k hk h) rfl (lw_V q1498 q1500 qs58 q92 q1501) (by decide +kernel) rfl rfl ⟨Nat.le_of_ble_eq_true rfl, Nat.le_of_ble_eq_true rfl⟩ (Nat.le_of_ble_eq_true rfl) ⟨Nat.le_of_ble_eq_true rfl, Nat.le_of_ble_eq_true rfl⟩ (fun v23 st23 h23 => ?_)
  obtain ⟨rfl, rfl⟩ := h23
  refine r_if_eqZ (pc := 26) (tgt := 58) C dX2_findNext_26 (by decide) (bi_i _) (fun h26 => ?_) (fun h26 => ?_)
  · refine r_aload_n (pc := 58) C dX2_findNext_58 rfl rfl ?_
    refine r_aload_n (pc := 59) C dX2_findNext_59 rfl rfl ?_
    refine r_mget (pc := 60) (k := 8) C dX2_findNext_60 rfl q1180 (by decide) rfl ?_
    refine r_iload_n (pc := 63) C dX2_findNext_63 rfl rfl ?_
    refine r_mald (pc := 64) (L := 1200) C dX2_findNext_64 (by decide) rfl (by omega) (by omega) ?_
    rw [fa]
    refine r_aload_n (pc := 65) C dX2_findNext_65 rfl rfl ?_
    refine r_mget (pc := 66) (k := 9) C dX2_findNext_66 rfl q1181 (by decide) rfl ?_
    refine r_iload_n (pc := 69) C dX2_findNext_69 rfl rfl ?_
    refine r_mald (pc := 70) (L := 1200) C dX2_findNext_70 (by decide) rfl (by omega) (by omega) ?_
    rw [fb]
    refine r_iconstZ (pc := 71) C dX2_findNext_71 ?_
    refine r_aload_n (pc := 72) C dX2_findNext_72 rfl rfl ?_
    refine r_mget (pc := 73) (k := 8) C dX2_findNext_73 rfl q1180 (by decide) rfl ?_
    refine r_iload_n (pc := 76) C dX2_findNext_76 rfl rfl ?_
    refine r_mald (pc := 77) (L := 1200) C dX2_findNext_77 (by decide) rfl (by omega) (by omega) ?_
    rw [fa]
    refine r_imulZ (pc := 78) C dX2_findNext_78 ?_
    refine r_iaddZ (pc := 79) C dX2_findNext_79 ?_
    refine r_iload_n (pc := 80) C dX2_findNext_80 rfl rfl ?_
    refine r_minv (pc := 81) 3 C dX2_findNext_81 (mt_numberOf l (fat l k).1 ((fat l k).2.1 + 2 * (fat l k).1) ((fat l k).1 + (fat l k).2.1 + (fat l k).2.2) (by unfold i32; omega) (by unfold i32; omega) (by unfold i32; omega) h) rfl (lw_V q1502 q1504 qs59 q92 q1505) (by decide +kernel) rfl rfl ⟨Nat.le_of_ble_eq_true rfl, Nat.le_of_ble_eq_true rfl⟩ (Nat.le_of_ble_eq_true rfl) ⟨Nat.le_of_ble_eq_true rfl, Nat.le_of_ble_eq_true rfl⟩ (fun v81 st81 h81 => ?_)
    obtain ⟨rfl, rfl⟩ := h81
    exact r_iret (pc := 84) C hQ dX2_findNext_84 (Nat.le_of_ble_eq_true rfl) (Nat.le_of_ble_eq_true rfl) (fun G hG => ⟨_, hG, ⟨by unfold nextF; first | (rw [if_pos (of_decide_eq_true (bi_n0 h26))]; done) | (rw [if_neg (of_decide_eq_false (bi_0.mp h26))]; done), rfl⟩⟩)
  · refine r_aload_n (pc := 29) C dX2_findNext_29 rfl rfl ?_
    refine r_iload_n (pc := 30) C dX2_findNext_30 rfl rfl ?_
    refine r_aload_n (pc := 31) C dX2_findNext_31 rfl rfl ?_
    refine r_mget (pc := 32) (k := 9) C dX2_findNext_32 rfl q1181 (by decide) rfl ?_
    refine r_iload_n (pc := 35) C dX2_findNext_35 rfl rfl ?_
    refine r_mald (pc := 36) (L := 1200) C dX2_findNext_36 (by decide) rfl (by omega) (by omega) ?_
    rw [fb]
    refine r_iconstZ (pc := 37) C dX2_findNext_37 ?_
    refine r_aload_n (pc := 38) C dX2_findNext_38 rfl rfl ?_
    refine r_mget (pc := 39) (k := 10) C dX2_findNext_39 rfl q1182 (by decide) rfl ?_
    refine r_iload_n (pc := 42) C dX2_findNext_42 rfl rfl ?_
    refine r_mald (pc := 43) (L := 1200) C dX2_findNext_43 (by decide) rfl (by omega) (by omega) ?_
    rw [fc]
    refine r_imulZ (pc := 44) C dX2_findNext_44 ?_
    refine r_iaddZ (pc := 45) C dX2_findNext_45 ?_
    refine r_aload_n (pc := 46) C dX2_findNext_46 rfl rfl ?_
    refine r_mget (pc := 47) (k := 10) C dX2_findNext_47 rfl q1182 (by decide) rfl ?_
    refine r_iload_n (pc := 50) C dX2_findNext_50 rfl rfl ?_
    refine r_mald (pc := 51) (L := 1200) C dX2_findNext_51 (by decide) rfl (by omega) (by omega) ?_
    rw [fc]
    refine r_minv (pc := 52) 3 C dX2_findNext_52 (mt_numberOf l ((fat l k).1 + (fat l k).2.1 + (fat l k).2.2) ((fat l k).2.1 + 2 * (fat l k).2.2) (fat l k).2.2 (by unfold i32; omega) (by unfold i32; omega) (by unfold i32; omega) h) rfl (lw_V q1502 q1504 qs59 q92 q1505) (by decide +kernel) rfl rfl ⟨Nat.le_of_ble_eq_true rfl, Nat.le_of_ble_eq_true rfl⟩ (Nat.le_of_ble_eq_true rfl) ⟨Nat.le_of_ble_eq_true rfl, Nat.le_of_ble_eq_true rfl⟩ (fun v52 st52 h52 => ?_)
    obtain ⟨rfl, rfl⟩ := h52
    refine r_goto (pc := 55) (tgt := 84) C dX2_findNext_55 (by decide) ?_
    exact r_iret (pc := 84) C hQ dX2_findNext_84 (Nat.le_of_ble_eq_true rfl) (Nat.le_of_ble_eq_true rfl) (fun G hG => ⟨_, hG, ⟨by unfold nextF; first | (rw [if_pos (of_decide_eq_true (bi_n0 h26))]; done) | (rw [if_neg (of_decide_eq_false (bi_0.mp h26))]; done), rfl⟩⟩)

