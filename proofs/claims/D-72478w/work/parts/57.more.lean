/-! rows: appending with a growing room, masks, comparing longs; cycles' marks counted -/
set_option maxRecDepth 100000
theorem and_mask {a : Int} (h0 : 0 ≤ a) (h1 : a < 9223372036854775808) : lI a &&& lI 2147483647 = lI (a % 2147483648) := by
  obtain ⟨j, rfl⟩ : ∃ j : Nat, a = j := ⟨a.toNat, by omega⟩
  apply Int64.toBitVec_inj.mp
  rw [Int64.toBitVec_and]
  unfold lI
  rw [Int64.toBitVec_ofInt, Int64.toBitVec_ofInt, Int64.toBitVec_ofInt]
  have e1 : ((j : Int) % 2147483648) = ((j % 2147483648 : Nat) : Int) := by omega
  have e2 : (2147483647 : Int) = ((2147483647 : Nat) : Int) := rfl
  rw [e1, e2, BitVec.ofInt_natCast, BitVec.ofInt_natCast, BitVec.ofInt_natCast]
  apply BitVec.eq_of_toNat_eq
  rw [BitVec.toNat_and, BitVec.toNat_ofNat, BitVec.toNat_ofNat, BitVec.toNat_ofNat, Nat.mod_eq_of_lt (show j < 2 ^ 64 by omega), Nat.mod_eq_of_lt (show 2147483647 < 2 ^ 64 by omega), Nat.mod_eq_of_lt (show j % 2147483648 < 2 ^ 64 by omega)]
  have := Nat.and_two_pow_sub_one_eq_mod j 31
  exact this
theorem lg0 {a b : Int} (ha : i64 a) (hb : i64 b) : lg_cmp (lI a) (lI b) = 0 ↔ a = b := by
  unfold lg_cmp
  constructor
  · intro h
    split at h
    · exact absurd h (by decide)
    · split at h
      · rename_i e; exact lI_inj ha hb e
      · exact absurd h (by decide)
  · intro e
    subst e
    rw [if_neg (fun q => by have := Int64.lt_iff_toInt_lt.mp q; omega), if_pos rfl]
section MORE
variable {Z : ZC} {y : MethodName} {cc : ByteArray} {nL : Nat} {rt : Option FieldType} {R : Room} {Γ : Gh → Prop} {n s pc : Nat} {lv : List (Option Value)} {st rest : List Value} {G0 : Gh}
theorem r_landM {a : Int} (C : CC Z y cc nL rt R) (d : decode cc pc = .ok (.land, 1)) (h0 : 0 ≤ a) (h1 : a < 9223372036854775808) (k : WW Z nL Γ n s (pc + 1) lv (.long (lI (a % 2147483648)) :: st)) : WW Z nL Γ n s pc lv (.long (lI 2147483647) :: .long (lI a) :: st) := r_land C d (by rw [and_mask h0 h1]; exact k)
theorem r_cmp_ne {a b : Int} {off : Int} {tgt : Nat} (C : CC Z y cc nL rt R) (d : decode cc pc = .ok (.ifCond .ne off, 3)) (ht : (pc : Int) + off = (tgt : Int)) (ha : i64 a) (hb : i64 b) (kt : a ≠ b → WW Z nL Γ n s tgt lv st) (kf : a = b → WW Z nL Γ n s (pc + 3) lv st) : WW Z nL Γ n s pc lv (.int (lg_cmp (lI a) (lI b)) :: st) :=
  r_if_ne C d ht (fun h => kt (fun e => h ((lg0 ha hb).mpr e))) (fun h => kf ((lg0 ha hb).mp h))
/-- a letter more; the slots used so far are c0 and twice the room -/
theorem r_appA {own : String} {idx a t m c0 : Nat} {u : List Bool} (b : Bool) (h : SB G0 a t (txt u) m) (ht : t ≠ 0) (hm : m ≤ 20000) (hR : 6 ≤ R.frames ∧ 133 ≤ R.locals) (hr : (rest.map fun v => v.category).sum ≤ 8) (hc : n + 1 ≤ R.cells ∧ c0 + 2 * m ≤ R.slots ∧ (u.length = m → c0 + 4 * m + 4 ≤ R.slots)) (C : CC Z y cc nL rt R) (d : decode cc pc = .ok (.invokevirtual idx, 3)) (ho : y.cls = own) (hw : GoodIn lw_all (wsV own idx RJ8 yJ8_append (ws_ yJ8_append cJ8_append 2 (some (.object "java/lang/StringBuilder")))))
    (kk : ∀ (G' : Gh) (m' : Nat), SB G' a t (txt (u ++ [b])) m' → (m' = m ∨ m' = 2 * u.length + 2) → FR [t] G0 G' → WW Z nL (fun x => x = G') (n + 1) (c0 + 2 * m') (pc + 3) lv (.ref a :: rest)) : WW Z nL (fun x => x = G0) n (c0 + 2 * m) pc lv (.int (iI (codeB b)) :: .ref a :: rest) := by
  have hlen : u.length ≤ m := by have := h.2.1; rw [txt_len] at this; exact this
  by_cases hlt : u.length < m
  · refine r_invV (ci := 9) 1 C d (xb_app b h ht hlt) (gB h) (show vwC[9]? = some (RJ8, TJ8, 4) from rfl) ho hw (by decide +kernel) rfl rfl ⟨by show 2 + 1 ≤ _; omega, by show 8 + (2 + 11) + 43 ≤ _; omega⟩ hr ⟨by show n + 0 ≤ _; omega, by show _ + 0 ≤ _; omega⟩ (fun v G' hv => ?_)
    obtain ⟨rfl, q1, q2⟩ := hv
    exact ww_wide (n' := n + 1) (s' := c0 + 2 * m) (by show n + 0 ≤ _; omega) (by show _ + 0 ≤ _; omega) (kk G' m q1 (Or.inl rfl) q2)
  · have he : u.length = m := by omega
    have hc3 := hc.2.2 he
    refine r_invV (ci := 9) 1 C d (xb_appg b h ht he hm) (gB h) (show vwC[9]? = some (RJ8, TJ8, 4) from rfl) ho hw (by decide +kernel) rfl rfl ⟨by show 5 + 1 ≤ _; omega, by show 8 + (2 + 11) + 112 ≤ _; omega⟩ hr ⟨by show n + 1 ≤ _; omega, by show _ + (2 * m + 2) ≤ _; omega⟩ (fun v G' hv => ?_)
    obtain ⟨rfl, q1, q2⟩ := hv
    exact ww_wide (n' := n + 1) (s' := c0 + 2 * (2 * m + 2)) (by show n + 1 ≤ _; omega) (by show _ + (2 * m + 2) ≤ _; omega) (kk G' (2 * m + 2) q1 (Or.inr (by omega)) q2)
end MORE
