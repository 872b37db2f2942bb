/-! the component's object; String constants; roads by number -/
set_option maxRecDepth 100000
/-- a String constant: its hash was asked before -/
def STRK (G : Gh) (a : Nat) (w : Tx) (q z : Int) : Prop := okT w ∧ w.length ≤ 100000 ∧ ∃ b f, G a = some (0, .inl (7, [.ref b, .int (iI 0), .int (iI q), .int (iI z)])) ∧ G b = some (0, .inr (1, w.length, f)) ∧ bys w f
theorem STRK.str {G : Gh} {a : Nat} {w : Tx} {q z : Int} (h : STRK G a w q z) : STR G a w := by
  obtain ⟨h1, h2, b, f, h3, h4, h5⟩ := h
  exact ⟨h1, h2, b, f, _, _, h3, h4, h5⟩
theorem STRK.fr {G G' : Gh} {a : Nat} {w : Tx} {q z : Int} {ts : List Nat} (h : STRK G a w q z) (hf : FR ts G G') (h0 : 0 ∉ ts) : STRK G' a w q z := by
  obtain ⟨h1, h2, b, f, h3, h4, h5⟩ := h
  exact ⟨h1, h2, b, f, hf _ _ h3 h0, hf _ _ h4 h0, h5⟩
/-- what the claim's constants hold -/
def KON (X : XE) (G : Gh) : Prop := STRK G (X.2.2 0) [] 0 1 ∧ STRK G (X.2.2 2) [76] 76 0 ∧ STRK G (X.2.2 4) [82] 82 0 ∧ ∃ f, G (X.2.2 6) = some (0, .inr (2, 0, f))
theorem KON.fr {X : XE} {G G' : Gh} {ts : List Nat} (h : KON X G) (hf : FR ts G G') (h0 : 0 ∉ ts) : KON X G' := by
  obtain ⟨h1, h2, h3, f, h4⟩ := h
  exact ⟨h1.fr hf h0, h2.fr hf h0, h3.fr hf h0, f, hf _ _ h4 h0⟩
/-- the component's fields -/
def xfs (A : Nat → Nat) (rdn rv dr : Int) : List Value := [.ref (A 0), .ref (A 1), .ref (A 2), .ref (A 3), .int (iI rdn), .ref (A 5), .int (iI rv), .ref (A 7), .ref (A 8), .long (lI dr)]
/-- the component's object and its three tables -/
def XOB (G : Gh) (xh : Nat) (A : Nat → Nat) (rdn rv dr : Int) : Prop := G xh = some (1, .inl (0, xfs A rdn rv dr)) ∧ TAB G (A 0) (1, 0, 0, 1) ∧ TAB G (A 1) (1, 0, 1, 1) ∧ TAB G (A 2) (1, 1, 0, 1)
theorem XOB.fr {G G' : Gh} {xh : Nat} {A : Nat → Nat} {rdn rv dr : Int} {ts : List Nat} (h : XOB G xh A rdn rv dr) (hf : FR ts G G') (h0 : 0 ∉ ts) (h1 : 1 ∉ ts) : XOB G' xh A rdn rv dr := ⟨hf _ _ h.1 h1, h.2.1.fr hf h0, h.2.2.1.fr hf h0, h.2.2.2.fr hf h0⟩
/-- all but one cell stays -/
def FRA (a : Nat) (G G' : Gh) : Prop := ∀ c q, G c = some q → c ≠ a → G' c = some q
theorem FRA.made {a : Nat} {G G' : Gh} {p : Nat × GE} (n : G a = none) (h : FRA a (gup G a p) G') : FR [] G G' := fun c q hc _ => h c q (up0 n hc) (fun e => by rw [e, n] at hc; cases hc)
theorem lastFirst {p : Nat → Bool} {n : Nat} : ∀ d, d ≤ n → ∀ T : Int, T = (if fstN (fun k => p (n - d + k)) d < d then ((n - d + fstN (fun k => p (n - d + k)) d : Nat) : Int) else NON) → d < n → (if p (n - d - 1) then ((n - d - 1 : Nat) : Int) else T) = (if fstN (fun k => p (n - (d + 1) + k)) (d + 1) < d + 1 then ((n - (d + 1) + fstN (fun k => p (n - (d + 1) + k)) (d + 1) : Nat) : Int) else NON) := by
  intro d hd T hT hlt
  have e0 : n - (d + 1) = n - d - 1 := by omega
  obtain ⟨s1, s2⟩ := fstN_spec (fun k => p (n - d + k)) d
  by_cases hp : p (n - d - 1) = true
  · rw [if_pos hp]
    have : fstN (fun k => p (n - (d + 1) + k)) (d + 1) = 0 := fstN_eq (by omega) (fun j hj => absurd hj (Nat.not_lt_zero _)) (fun _ => by rw [e0, Nat.add_zero]; exact hp)
    rw [this, if_pos (by omega), e0, Nat.add_zero]
  · rw [if_neg hp, hT]
    have hle := fstN_le (fun k => p (n - d + k)) d
    have : fstN (fun k => p (n - (d + 1) + k)) (d + 1) = fstN (fun k => p (n - d + k)) d + 1 := by
      apply fstN_eq (by omega)
      · intro j hj
        by_cases e : j = 0
        · rw [e, e0, Nat.add_zero]
          exact Bool.eq_false_iff.mpr hp
        · have := s1 (j - 1) (by omega)
          rw [show n - (d + 1) + j = n - d + (j - 1) by omega]
          exact this
      · intro hh
        have := s2 (by omega)
        rw [show n - (d + 1) + (fstN (fun k => p (n - d + k)) d + 1) = n - d + fstN (fun k => p (n - d + k)) d by omega]
        exact this
    rw [this]
    by_cases q : fstN (fun k => p (n - d + k)) d < d
    · rw [if_pos q, if_pos (by omega), show n - d + fstN (fun k => p (n - d + k)) d = n - (d + 1) + (fstN (fun k => p (n - d + k)) d + 1) by omega]
    · rw [if_neg q, if_neg (by omega)]
theorem allN_iff (p : Nat → Bool) (n : Nat) : allN p n = true ↔ ∀ k, k < n → p k = true := by
  induction n with
  | zero => exact ⟨fun _ k hk => absurd hk (Nat.not_lt_zero _), fun _ => rfl⟩
  | succ n ih =>
    rw [allN_s, Bool.and_eq_true, ih]
    constructor
    · intro hh k hk
      by_cases e : k = n
      · rw [e]; exact hh.2
      · exact hh.1 k (by omega)
    · exact fun hh => ⟨fun k hk => hh k (by omega), hh n (by omega)⟩
theorem allN_more {p : Nat → Bool} {i n : Nat} (h : allN p i = false) (hi : i ≤ n) : allN p n = false := by
  cases hq : allN p n with
  | false => rfl
  | true =>
    have := (allN_iff p n).mp hq
    have h2 := (allN_iff p i).mpr (fun k hk => this k (by omega))
    rw [h] at h2
    cases h2
theorem xor_sign {a n : Int} (ha : i32 a) (hn : i32 n) (h0 : 0 < n) : 0 ≤ iI a ^^^ iI n ↔ 0 ≤ a := by
  have m : ((iI a).toBitVec ^^^ (iI n).toBitVec).msb = ((iI a).toBitVec.msb ^^ (iI n).toBitVec.msb) := BitVec.msb_xor
  rw [BitVec.msb_eq_toInt, BitVec.msb_eq_toInt, BitVec.msb_eq_toInt] at m
  have ea : (iI a).toBitVec.toInt = a := iI_toInt ha
  have en : (iI n).toBitVec.toInt = n := iI_toInt hn
  have ex : ((iI a).toBitVec ^^^ (iI n).toBitVec).toInt = (iI a ^^^ iI n).toInt := by rw [← Int32.toBitVec_xor]; rfl
  rw [ea, en, ex, decide_eq_false (show ¬ n < 0 by omega), Bool.xor_false] at m
  have m2 := decide_eq_decide.mp m
  rw [Int32.le_iff_toInt_le]
  have e2 : (0 : Int32).toInt = 0 := rfl
  rw [e2]
  omega
theorem r_xorge {Z : ZC} {y : MethodName} {cc : ByteArray} {nL : Nat} {rt : Option FieldType} {R : Room} {Γ : Gh → Prop} {n s pc : Nat} {lv : List (Option Value)} {st : List Value} {a m : Int} {off : Int} {tgt : Nat} (C : CC Z y cc nL rt R) (d : decode cc pc = .ok (.ifCond .ge off, 3)) (ht : (pc : Int) + off = (tgt : Int)) (ha : i32 a) (hm : i32 m) (h0 : 0 < m) (kt : 0 ≤ a → WW Z nL Γ n s tgt lv st) (kf : a < 0 → WW Z nL Γ n s (pc + 3) lv st) : WW Z nL Γ n s pc lv (.int (iI a ^^^ iI m) :: st) :=
  r_if_ge C d ht (fun h => kt ((xor_sign ha hm h0).mp h)) (fun h => kf (Int.not_le.mp (fun q => h ((xor_sign ha hm h0).mpr q))))
theorem tmod_neg {a n : Int} (h0 : a < 0) (hn : 0 < n) : (if a.tmod n = 0 then a.tmod n else a.tmod n + n) = a % n ∧ -n < a.tmod n ∧ a.tmod n ≤ 0 := by
  have e1 : a.tmod n = -((-a) % n) := by
    have : (-a).tmod n = (-a) % n := Int.tmod_eq_emod_of_nonneg (by omega)
    rw [Int.neg_tmod] at this
    omega
  have s0 := Int.emod_nonneg (-a) (show n ≠ 0 by omega)
  have s1 := Int.emod_lt_of_pos (-a) hn
  have e2 := Int.emod_add_mul_ediv (-a) n
  refine ⟨?_, by omega, by omega⟩
  have e3 : a % n = (-((-a) % n)) % n := by
    have : a = -((-a) % n) + n * (-((-a) / n)) := by rw [Int.mul_neg]; omega
    have h4 : a % n = (-((-a) % n) + n * (-((-a) / n))) % n := by rw [← this]
    rw [h4, Int.add_mul_emod_self_left]
  rw [e3, e1]
  by_cases q : (-a) % n = 0
  · rw [q]; simp
  · rw [if_neg (by omega)]
    have : (-((-a) % n) + n * 1) % n = (-((-a) % n)) % n := Int.add_mul_emod_self_left _ _ _
    have h5 : (-((-a) % n) + n) % n = -((-a) % n) + n := Int.emod_eq_of_lt (by omega) (by omega)
    rw [Int.mul_one] at this
    exact (h5.symm.trans this)
theorem turn_of {u o : List Bool} {T : Int} {d : Nat} (hd : d = u.length) (hT : T = (if fstN (fun k => allN (fun j => wc u (u.length - d + k + j) == wl o j) u.length) d < d then ((u.length - d + fstN (fun k => allN (fun j => wc u (u.length - d + k + j) == wl o j) u.length) d : Nat) : Int) else NON)) : (if u.length = o.length then T else NON) = wTurn u o := by
  subst hd
  simp only [Nat.sub_self, Nat.zero_add] at hT
  unfold wTurn wTurnN
  rw [hT]
  by_cases he : u.length = o.length
  · rw [if_pos he]
    by_cases hlt : fstN (fun k => allN (fun j => wc u (k + j) == wl o j) u.length) u.length < u.length
    · rw [if_pos hlt, if_pos ⟨he, hlt⟩]
    · rw [if_neg hlt, if_neg (fun q => hlt q.2)]
  · rw [if_neg he, if_neg (fun q => he q.1)]
theorem turn_no {u o : List Bool} (T : Int) (h : ¬ u.length = o.length) : (if u.length = o.length then T else NON) = wTurn u o := by
  unfold wTurn
  rw [if_neg h, if_neg (fun q => h q.1)]
