/-! THE REFERENCE's WORLD: one object of 35 fields, twelve arrays of ints; its state: scalars and arrays by the field's number -/
set_option maxRecDepth 100000
abbrev MSt : Type := (Nat → Int) × (Nat → Int → Int)
def iput (st : MSt) (k : Nat) (z : Int) : MSt := (fun j => if j = k then z else st.1 j, st.2)
def aput (st : MSt) (k : Nat) (i z : Int) : MSt := (st.1, fun q j => if q = k ∧ j = i then z else st.2 q j)
/-- a whole array anew -/
def aset (st : MSt) (k : Nat) (f : Int → Int) : MSt := (st.1, fun q => if q = k then f else st.2 q)
def b2 (p : Prop) [Decidable p] : Int := if p then 1 else 0
theorem b2_t {p : Prop} [Decidable p] (h : p) : b2 p = 1 := if_pos h
theorem b2_f {p : Prop} [Decidable p] (h : ¬ p) : b2 p = 0 := if_neg h
theorem b2_i (p : Prop) [Decidable p] : i32 (b2 p) := by unfold b2 i32; split <;> omega
theorem b2_0 {p : Prop} [Decidable p] : b2 p = 0 ↔ ¬ p := by unfold b2; split <;> simp [*]
theorem b2_1 {p : Prop} [Decidable p] : b2 p ≠ 0 ↔ p := by unfold b2; split <;> simp [*]
theorem b2_nar (p : Prop) [Decidable p] : narrow .boolean (.int (iI (b2 p))) = .int (iI (b2 p)) := by unfold b2; split <;> decide
theorem b2_fit (p : Prop) [Decidable p] : fits .boolean (.int (iI (b2 p))) = true := by unfold b2; split <;> decide
abbrev marr : List Nat := [1, 3, 4, 8, 9, 10, 11, 12, 14, 16, 19, 21]
def mlen (k : Nat) : Nat := match k with
  | 1 => 20
  | 3 => 6
  | 4 => 120
  | 16 => 20
  | 19 => 20
  | 21 => 20
  | _ => 1200
def mfs (mad : Nat → Nat) (st : MSt) : List Value := [.int (iI (st.1 0)), .ref (mad 1), .int (iI (st.1 2)), .ref (mad 3), .ref (mad 4), .int (iI (st.1 5)), .int (iI (st.1 6)), .int (iI (st.1 7)), .ref (mad 8), .ref (mad 9), .ref (mad 10), .ref (mad 11), .ref (mad 12), .int (iI (st.1 13)), .ref (mad 14), .int (iI (st.1 15)), .ref (mad 16), .int (iI (st.1 17)), .int (iI (st.1 18)), .ref (mad 19), .int (iI (st.1 20)), .ref (mad 21), .int (iI (st.1 22)), .int (iI (st.1 23)), .int (iI (st.1 24)), .int (iI (st.1 25)), .int (iI (st.1 26)), .int (iI (st.1 27)), .int (iI (st.1 28)), .int (iI (st.1 29)), .int (iI (st.1 30)), .int (iI (st.1 31)), .int (iI (st.1 32)), .long (lI (st.1 33)), .long (lI (st.1 34))]
theorem ms_0 (mad : Nat → Nat) (st : MSt) (z : Int) : (mfs mad st).set 0 (.int (iI z)) = mfs mad (iput st 0 z) := rfl
theorem ms_2 (mad : Nat → Nat) (st : MSt) (z : Int) : (mfs mad st).set 2 (.int (iI z)) = mfs mad (iput st 2 z) := rfl
theorem ms_5 (mad : Nat → Nat) (st : MSt) (z : Int) : (mfs mad st).set 5 (.int (iI z)) = mfs mad (iput st 5 z) := rfl
theorem ms_6 (mad : Nat → Nat) (st : MSt) (z : Int) : (mfs mad st).set 6 (.int (iI z)) = mfs mad (iput st 6 z) := rfl
theorem ms_7 (mad : Nat → Nat) (st : MSt) (z : Int) : (mfs mad st).set 7 (.int (iI z)) = mfs mad (iput st 7 z) := rfl
theorem ms_13 (mad : Nat → Nat) (st : MSt) (z : Int) : (mfs mad st).set 13 (.int (iI z)) = mfs mad (iput st 13 z) := rfl
theorem ms_15 (mad : Nat → Nat) (st : MSt) (z : Int) : (mfs mad st).set 15 (.int (iI z)) = mfs mad (iput st 15 z) := rfl
theorem ms_17 (mad : Nat → Nat) (st : MSt) (z : Int) : (mfs mad st).set 17 (.int (iI z)) = mfs mad (iput st 17 z) := rfl
theorem ms_18 (mad : Nat → Nat) (st : MSt) (z : Int) : (mfs mad st).set 18 (.int (iI z)) = mfs mad (iput st 18 z) := rfl
theorem ms_20 (mad : Nat → Nat) (st : MSt) (z : Int) : (mfs mad st).set 20 (.int (iI z)) = mfs mad (iput st 20 z) := rfl
theorem ms_22 (mad : Nat → Nat) (st : MSt) (z : Int) : (mfs mad st).set 22 (.int (iI z)) = mfs mad (iput st 22 z) := rfl
theorem ms_23 (mad : Nat → Nat) (st : MSt) (z : Int) : (mfs mad st).set 23 (.int (iI z)) = mfs mad (iput st 23 z) := rfl
theorem ms_24 (mad : Nat → Nat) (st : MSt) (z : Int) : (mfs mad st).set 24 (.int (iI z)) = mfs mad (iput st 24 z) := rfl
theorem ms_25 (mad : Nat → Nat) (st : MSt) (z : Int) : (mfs mad st).set 25 (.int (iI z)) = mfs mad (iput st 25 z) := rfl
theorem ms_26 (mad : Nat → Nat) (st : MSt) (z : Int) : (mfs mad st).set 26 (.int (iI z)) = mfs mad (iput st 26 z) := rfl
theorem ms_27 (mad : Nat → Nat) (st : MSt) (z : Int) : (mfs mad st).set 27 (.int (iI z)) = mfs mad (iput st 27 z) := rfl
theorem ms_28 (mad : Nat → Nat) (st : MSt) (z : Int) : (mfs mad st).set 28 (.int (iI z)) = mfs mad (iput st 28 z) := rfl
theorem ms_29 (mad : Nat → Nat) (st : MSt) (z : Int) : (mfs mad st).set 29 (.int (iI z)) = mfs mad (iput st 29 z) := rfl
theorem ms_30 (mad : Nat → Nat) (st : MSt) (z : Int) : (mfs mad st).set 30 (.int (iI z)) = mfs mad (iput st 30 z) := rfl
theorem ms_31 (mad : Nat → Nat) (st : MSt) (z : Int) : (mfs mad st).set 31 (.int (iI z)) = mfs mad (iput st 31 z) := rfl
theorem ms_32 (mad : Nat → Nat) (st : MSt) (z : Int) : (mfs mad st).set 32 (.int (iI z)) = mfs mad (iput st 32 z) := rfl
theorem ms_33 (mad : Nat → Nat) (st : MSt) (z : Int) : (mfs mad st).set 33 (.long (lI z)) = mfs mad (iput st 33 z) := rfl
theorem ms_34 (mad : Nat → Nat) (st : MSt) (z : Int) : (mfs mad st).set 34 (.long (lI z)) = mfs mad (iput st 34 z) := rfl
/-- the ghost heap holds the reference in the state st; what isn't the reference's is as it was in G0 -/
def MOD (mh : Nat) (mad : Nat → Nat) (G0 : Gh) (st : MSt) (G : Gh) : Prop :=
  G mh = some (10, .inl (2, mfs mad st)) ∧ (∀ k, k ∈ marr → G (mad k) = some (10, .inr (0, mlen k, fun j => .int (iI (st.2 k j))))) ∧ (∀ j k, j ∈ marr → k ∈ marr → mad j = mad k → j = k) ∧ (∀ a q, G0 a = some q → q.1 ≠ 10 → G a = some q) ∧ (0 ≤ st.1 18 ∧ st.1 18 ≤ 20)
theorem MOD.put {mh : Nat} {mad : Nat → Nat} {G0 : Gh} {st st' : MSt} {G : Gh} (h : MOD mh mad G0 st G) (h2 : st'.2 = st.2) (h18 : st'.1 18 = st.1 18 ∨ (0 ≤ st'.1 18 ∧ st'.1 18 ≤ 20)) {fs : List Value} (hf : fs = mfs mad st') : MOD mh mad G0 st' (gup G mh (10, .inl (2, fs))) := by
  obtain ⟨m1, m2, m3, m4, m5⟩ := h
  refine ⟨by rw [gup_eq, hf], fun k hk => ?_, m3, fun a q h1 h3 => ?_, by rcases h18 with e | e; rw [e]; exact m5; exact e⟩
  · rw [gup_ne G _ (fun e => by have := m2 k hk; rw [e, m1] at this; cases this), m2 k hk, h2]
  · rw [gup_ne G _ (fun e => by have := m4 a q h1 h3; rw [e, m1] at this; cases this; exact h3 rfl)]
    exact m4 a q h1 h3
theorem MOD.ast {mh : Nat} {mad : Nat → Nat} {G0 : Gh} {st : MSt} {G : Gh} {k : Nat} {i z : Int} {f : Nat → Value} (h : MOD mh mad G0 st G) (hk : k ∈ marr) (hi : 0 ≤ i) (hf : f = vup (fun j => .int (iI (st.2 k j))) i.toNat (.int (iI z))) : MOD mh mad G0 (aput st k i z) (gup G (mad k) (10, .inr (0, mlen k, f))) := by
  obtain ⟨m1, m2, m3, m4, m5⟩ := h
  refine ⟨?_, fun j hj => ?_, m3, fun a q h1 h3 => ?_, m5⟩
  · rw [gup_ne G _ (fun e => by have := m2 k hk; rw [← e, m1] at this; cases this), m1]
    rfl
  · by_cases e : j = k
    · subst e
      rw [gup_eq, hf]
      congr 5
      funext q
      show (if q = i.toNat then Value.int (iI z) else Value.int (iI (st.2 j q))) = Value.int (iI (if j = j ∧ (q : Int) = i then z else st.2 j q))
      by_cases e2 : q = i.toNat
      · rw [if_pos e2, if_pos ⟨rfl, by omega⟩]
      · rw [if_neg e2, if_neg (fun h => e2 (by omega))]
    · rw [gup_ne G _ (fun e2 => e (m3 j k hj hk e2)), m2 j hj]
      unfold aput
      congr 5
      funext q
      simp only [e, false_and, if_false]
  · rw [gup_ne G _ (fun e => by have := m4 a q h1 h3; rw [e, m2 k hk] at this; cases this; exact h3 rfl)]
    exact m4 a q h1 h3
section MODEL
variable {Z : ZC} {y : MethodName} {cc : ByteArray} {nL : Nat} {rt : Option FieldType} {R : Room} {Γ Γ' : Gh → Prop} {n s pc : Nat} {lv : List (Option Value)} {sk : List Value} {mh : Nat} {mad : Nat → Nat} {G0 : Gh} {st st' : MSt}
theorem ww_ass {P : Prop} (h : ∀ G, Γ G → P) (k : P → WW Z nL Γ n s pc lv sk) : WW Z nL Γ n s pc lv sk := fun G H locs ls hG hI hl => k (h G hG) G H locs ls hG hI hl
theorem r_mget {k idx : Nat} {v : Value} (C : CC Z y cc nL rt R) (d : decode cc pc = .ok (.getfield idx, 3)) (ho : y.cls = RX2) (hw : Cond.fieldLink RX2 idx (TX2 k).1 (TX2 k).2.1 (TX2 k).2.2.1 ∈ lw_all) (hk : k < 35) (hv : (mfs mad st)[k]? = some v) (kk : WW Z nL (MOD mh mad G0 st) n s (pc + 3) lv (v :: sk)) : WW Z nL (MOD mh mad G0 st) n s pc lv (.ref mh :: sk) :=
  r_get C d (fun G hG => ⟨10, hG.1⟩) (show vwC[2]? = some (RX2, TX2, 35) from rfl) in_X2 hk (by rw [ho]; exact C.t _ hw) (fun _ h => h) hv kk
theorem r_mput {k idx : Nat} {v : Value} {ty : FieldType} (C : CC Z y cc nL rt R) (d : decode cc pc = .ok (.putfield idx, 3)) (ho : y.cls = RX2) (hw : Cond.fieldLink RX2 idx (TX2 k).1 (TX2 k).2.1 (TX2 k).2.2.1 ∈ lw_all) (hk : k < 35) (hfin : (TX2 k).2.2.2 = false) (hd : parseFieldDescriptor (TX2 k).2.2.1 = some ty) (hn : narrow ty v = v) (hfit : fits ty v = true) (hset : (mfs mad st).set k v = mfs mad st') (h2 : st'.2 = st.2) (h18 : st'.1 18 = st.1 18 ∨ (0 ≤ st'.1 18 ∧ st'.1 18 ≤ 20)) (kk : WW Z nL (MOD mh mad G0 st') n s (pc + 3) lv sk) : WW Z nL (MOD mh mad G0 st) n s pc lv (v :: .ref mh :: sk) :=
  r_put C d (fun G hG => ⟨10, by decide, hG.1, hG.put h2 h18 hset⟩) (show vwC[2]? = some (RX2, TX2, 35) from rfl) in_X2 tyX2 tyX2_ok nmX2 hk (by rw [ho]; exact C.t _ hw) (fun _ h => h) hfin hd hn hfit hk kk
theorem r_mald {k L : Nat} {z : Int} (C : CC Z y cc nL rt R) (d : decode cc pc = .ok (.iaload, 1)) (hk : k ∈ marr) (hL : mlen k = L) (h0 : 0 ≤ z) (h1 : z < L) (kk : WW Z nL (MOD mh mad G0 st) n s (pc + 1) lv (.int (iI (st.2 k z)) :: sk)) : WW Z nL (MOD mh mad G0 st) n s pc lv (.int (iI z) :: .ref (mad k) :: sk) := by
  have hL2 : L ≤ 1200 := by rw [← hL]; unfold mlen; split <;> omega
  have hz : i32 z := by unfold i32; omega
  refine r_iald C d (fun G hG => ⟨10, hG.2.1 k hk⟩) (iI_in h0 (by rw [hL]; exact h1) (by rw [hL]; unfold i32; omega)) ?_ kk
  rw [iI_clamp hz, Int.toNat_of_nonneg h0]
theorem r_mast {k L : Nat} {z w : Int} (C : CC Z y cc nL rt R) (d : decode cc pc = .ok (.iastore, 1)) (hk : k ∈ marr) (hL : mlen k = L) (h0 : 0 ≤ z) (h1 : z < L) (kk : WW Z nL (MOD mh mad G0 (aput st k z w)) n s (pc + 1) lv sk) : WW Z nL (MOD mh mad G0 st) n s pc lv (.int (iI w) :: .int (iI z) :: .ref (mad k) :: sk) := by
  have hL2 : L ≤ 1200 := by rw [← hL]; unfold mlen; split <;> omega
  have hz : i32 z := by unfold i32; omega
  refine r_iast C d (fun G hG => ⟨10, by decide, hG.2.1 k hk, hG.ast hk h0 ?_⟩) (iI_in h0 (by rw [hL]; exact h1) (by rw [hL]; unfold i32; omega)) kk
  rw [iI_clamp hz]
theorem r_if_eqB {p : Prop} [Decidable p] {off : Int} {tgt : Nat} (C : CC Z y cc nL rt R) (d : decode cc pc = .ok (.ifCond .eq off, 3)) (ht : (pc : Int) + off = (tgt : Int)) (kt : ¬ p → WW Z nL Γ n s tgt lv sk) (kf : p → WW Z nL Γ n s (pc + 3) lv sk) : WW Z nL Γ n s pc lv (.int (iI (b2 p)) :: sk) := r_if_eqZ C d ht (b2_i p) (fun h => kt (b2_0.mp h)) (fun h => kf (b2_1.mp h))
theorem r_if_neB {p : Prop} [Decidable p] {off : Int} {tgt : Nat} (C : CC Z y cc nL rt R) (d : decode cc pc = .ok (.ifCond .ne off, 3)) (ht : (pc : Int) + off = (tgt : Int)) (kt : p → WW Z nL Γ n s tgt lv sk) (kf : ¬ p → WW Z nL Γ n s (pc + 3) lv sk) : WW Z nL Γ n s pc lv (.int (iI (b2 p)) :: sk) := r_if_neZ C d ht (b2_i p) (fun h => kt (b2_1.mp h)) (fun h => kf (b2_0.mp h))
theorem r_idivE {a b : Int} (C : CC Z y cc nL rt R) (d : decode cc pc = .ok (.idiv, 1)) (ha : i32 a) (hb : i32 b) (h0 : 0 ≤ a) (h1 : 0 < b) (k : WW Z nL Γ n s (pc + 1) lv (.int (iI (a / b)) :: sk)) : WW Z nL Γ n s pc lv (.int (iI b) :: .int (iI a) :: sk) := r_idivZ C d ha hb (by omega) (by rw [Int.tdiv_eq_ediv_of_nonneg h0]; exact k)
theorem r_iremE {a b : Int} (C : CC Z y cc nL rt R) (d : decode cc pc = .ok (.irem, 1)) (ha : i32 a) (hb : i32 b) (h0 : 0 ≤ a) (h1 : 0 < b) (k : WW Z nL Γ n s (pc + 1) lv (.int (iI (a % b)) :: sk)) : WW Z nL Γ n s pc lv (.int (iI b) :: .int (iI a) :: sk) := r_iremZ C d ha hb (by omega) (by rw [Int.tmod_eq_emod_of_nonneg h0]; exact k)
abbrev rmz (f lo : Nat) : Room := { frames := f, cells := 0, slots := 0, locals := lo }
/-- a method that reads and writes no cell of ours: its answer -/
def PF (y : MethodName) (cc : ByteArray) (nL : Nat) (rt : Option FieldType) (f lo : Nat) (args : List Value) (v : Option Value) : Prop := ∀ (l : Launch) (X : XE) (Γ : Gh → Prop), MG l X y cc nL rt (rmz f lo) args Γ (fun w G' => Γ G' ∧ w = v)
/-- a contract of the reference's methods -/
def MM (l : Launch) (X : XE) (mh : Nat) (mad : Nat → Nat) (G0 : Gh) (y : MethodName) (cc : ByteArray) (nL : Nat) (rt : Option FieldType) (f lo : Nat) (args : List Value) (st : MSt) (post : Option Value → MSt → Prop) : Prop := MG l X y cc nL rt (rmz f lo) (.ref mh :: args) (MOD mh mad G0 st) (fun w G' => ∃ st', MOD mh mad G0 st' G' ∧ post w st')
variable {y2 : MethodName} {cc2 : ByteArray} {nL2 idx f2 lo2 : Nat} {rt2 : Option FieldType} {As rest : List Value}
theorem r_invP {own : String} {v : Option Value} (k : Nat) (C : CC Z y cc nL rt R) (d : decode cc pc = .ok (.invokestatic idx, 3)) (hM : PF y2 cc2 nL2 rt2 f2 lo2 As v) (ho : y.cls = own) (hw : GoodIn lw_all (va_wsS own idx y2 (ws_ y2 cc2 nL2 rt2))) (hd : y2.cls ≠ "java/lang/invoke/MethodHandle" ∧ y2.cls ≠ "java/lang/invoke/VarHandle" ∧ (parseMethodDescriptor y2.desc).map (fun d => d.parameters.length) = some k) (hk : As.length = k) (hst : sk = As.reverse ++ rest) (hR : f2 + 1 ≤ R.frames ∧ 8 + (nL2 + 11) + lo2 ≤ R.locals) (hr : (rest.map fun v => v.category).sum ≤ 8) (hc : n ≤ R.cells ∧ s ≤ R.slots)
    (kk : WW Z nL Γ n s (pc + 3) lv (v.toList ++ rest)) : WW Z nL Γ n s pc lv sk :=
  r_invS k C d (hM _ _ Γ) ho hw hd hk hst hR hr hc (fun w G' h => by
    obtain ⟨h1, rfl⟩ := h
    exact ww_to (Γ' := Γ) (fun G (e : G = G') => by rw [e]; exact h1) kk)
theorem r_minv {post2 : Option Value → MSt → Prop} (k : Nat) (C : CC Z y cc nL rt R) (d : decode cc pc = .ok (.invokevirtual idx, 3)) (hM : MM (zl Z) (zX Z) mh mad G0 y2 cc2 nL2 rt2 f2 lo2 As st post2) (ho : y.cls = RX2) (hw : GoodIn lw_all (wsV RX2 idx RX2 y2 (ws_ y2 cc2 nL2 rt2))) (hd : y2.cls = RX2 ∧ y2.cls ≠ "java/lang/invoke/MethodHandle" ∧ y2.cls ≠ "java/lang/invoke/VarHandle" ∧ (parseMethodDescriptor y2.desc).map (fun d => d.parameters.length) = some k) (hk : As.length = k) (hst : sk = As.reverse ++ .ref mh :: rest) (hR : f2 + 1 ≤ R.frames ∧ 8 + (nL2 + 11) + lo2 ≤ R.locals) (hr : (rest.map fun v => v.category).sum ≤ 8) (hc : n ≤ R.cells ∧ s ≤ R.slots)
    (kk : ∀ v st', post2 v st' → WW Z nL (MOD mh mad G0 st') n s (pc + 3) lv (v.toList ++ rest)) : WW Z nL (MOD mh mad G0 st) n s pc lv sk :=
  r_invV k C d hM (fun G hG => ⟨10, _, hG.1⟩) (show vwC[2]? = some (RX2, TX2, 35) from rfl) ho hw hd hk hst hR hr hc (fun w G' h => by
    obtain ⟨st', h1, h2⟩ := h
    exact ww_to (fun G (e : G = G') => by rw [e]; exact h1) (kk w st' h2))
end MODEL
