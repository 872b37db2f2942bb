/-! readers: a method that writes nothing and makes no cell; texts; lists -/
set_option maxRecDepth 100000
section RD
variable {Z : ZC} {nL : Nat} {Γ : Gh → Prop} {n s pc : Nat} {lv : List (Option Value)} {rest : List Value}
theorem rd_k {v0 : Option Value} {G0 : Gh} (k : WW Z nL (fun x => x = G0) n s pc lv (v0.toList ++ rest)) : ∀ v G', (v = v0 ∧ G' = G0) → WW Z nL (fun x => x = G') (n + 0) (s + 0) pc lv (v.toList ++ rest) := by
  intro v G' h
  obtain ⟨h1, h2⟩ := h
  rw [h1, h2]
  exact k
theorem pu_k {v0 : Option Value} (k : WW Z nL Γ n s pc lv (v0.toList ++ rest)) : ∀ v G', (Γ G' ∧ v = v0) → WW Z nL (fun x => x = G') (n + 0) (s + 0) pc lv (v.toList ++ rest) := by
  intro v G' h
  obtain ⟨h1, h2⟩ := h
  rw [h2]
  exact ww_to (Γ' := Γ) (fun G (e : G = G') => by rw [e]; exact h1) k
end RD
theorem g1 {G0 : Gh} {a t : Nat} {e : GE} (h : G0 a = some (t, e)) : ∀ G, G = G0 → ∃ t, G a = some (t, e) := fun G hG => ⟨t, by rw [hG]; exact h⟩
theorem g2 {G0 : Gh} {a t ci : Nat} {fs : List Value} (h : G0 a = some (t, .inl (ci, fs))) : ∀ G, G = G0 → ∃ t fs, G a = some (t, .inl (ci, fs)) := fun G hG => ⟨t, fs, by rw [hG]; exact h⟩
theorem g3 {G0 : Gh} {a t : Nat} {e : GE} (h : G0 a = some (t, e)) : ∀ G, G = G0 → G a = some (t, e) := fun G hG => by rw [hG]; exact h
theorem gup_gup (G : Gh) (a : Nat) (p q : Nat × GE) : gup (gup G a p) a q = gup G a q := by
  funext b
  unfold gup
  split <;> rfl
theorem nar_c8 : ∀ c, c < 256 → (nI c).toUInt32.toUInt16.toUInt32.toInt32 = nI c := by decide +kernel
theorem nar_c {a : Int} (h0 : 0 ≤ a) (h1 : a < 256) : narrow .char (.int (iI a)) = .int (iI a) := by
  obtain ⟨j, rfl⟩ : ∃ j : Nat, a = j := ⟨a.toNat, by omega⟩
  rw [iI_nI]
  show Value.int _ = _
  rw [nar_c8 j (by omega)]
/-- texts are told by their length and letters -/
theorem tx_ext {u w : Tx} (h : u.length = w.length) (h2 : ∀ j, j < u.length → tl u j = tl w j) : u = w := by
  apply List.ext_getElem h
  intro j h3 h4
  have := h2 j h3
  unfold tl at this
  rw [List.getD_eq_getElem?_getD, List.getD_eq_getElem?_getD, List.getElem?_eq_getElem h3, List.getElem?_eq_getElem h4] at this
  exact this
theorem tl_i {w : Tx} (h : okT w) (j : Nat) : tl w j < 128 := by
  by_cases hj : j < w.length
  · exact h.at hj
  · unfold tl
    rw [List.getD_eq_getElem?_getD, List.getElem?_eq_none (by omega)]
    decide
theorem bys_uniq {u w : Tx} {f : Nat → Value} (hl : u.length = w.length) (h1 : bys u f) (h2 : bys w f) (o1 : okT u) (o2 : okT w) : u = w := by
  apply tx_ext hl
  intro j hj
  have e := (h1 j hj).symm.trans (h2 j (by omega))
  have e2 : iI (tl u j : Nat) = iI (tl w j : Nat) := by injection e
  have p1 := tl_i o1 j
  have p2 := tl_i o2 j
  have := iI_inj (by unfold i32; omega) (by unfold i32; omega) e2
  omega
theorem STR.uniq {G : Gh} {a : Nat} {u w : Tx} (h1 : STR G a u) (h2 : STR G a w) : u = w := by
  obtain ⟨o1, -, b1, f1, q1, z1, g1, k1, y1⟩ := h1
  obtain ⟨o2, -, b2, f2, q2, z2, g2, k2, y2⟩ := h2
  rw [g1] at g2
  have e1 : b1 = b2 := by
    have := congrArg (fun o : Option (Nat × GE) => match o with | some (_, .inl (_, .ref b :: _)) => b | _ => 0) g2
    exact this
  subst e1
  rw [k1] at k2
  injection k2 with k2
  injection k2 with _ k2
  injection k2 with k2
  injection k2 with _ k2
  injection k2 with k3 k4
  subst k4
  exact bys_uniq k3 y1 y2 o1 o2
theorem okT.app {u w : Tx} (h : okT u) (h2 : okT w) : okT (u ++ w) := fun c hc => (List.mem_append.mp hc).elim (h c) (h2 c)
theorem tl_app (u w : Tx) (k : Nat) : tl (u ++ w) k = if k < u.length then tl u k else tl w (k - u.length) := by
  unfold tl
  rw [List.getD_eq_getElem?_getD, List.getD_eq_getElem?_getD, List.getD_eq_getElem?_getD, List.getElem?_append]
  split <;> rfl
theorem bys.push {w : Tx} {f : Nat → Value} (h : bys w f) (c : Nat) : bys (w ++ [c]) (vup f w.length (.int (iI (c : Int)))) := by
  intro j hj
  rw [List.length_append] at hj
  unfold vup
  rw [tl_app]
  by_cases e : j = w.length
  · rw [if_pos e, if_neg (by omega), e, Nat.sub_self]
    rfl
  · have h1 : j < w.length := by simp at hj; omega
    rw [if_neg e, if_pos h1]
    exact h j h1
theorem bys.cpy {u w : Tx} {f g : Nat → Value} (h : bys u g) (h2 : bys w f) (k : Nat) (hk : k = w.length) : bys (u ++ w) (cpyV f g 0 u.length k) := by
  intro j hj
  rw [List.length_append] at hj
  unfold cpyV
  rw [tl_app]
  by_cases e : j < u.length
  · rw [if_neg (by omega), if_pos e]
    exact h j e
  · rw [if_pos (by omega), if_neg e]
    have := h2 (j - u.length) (by omega)
    rw [Nat.zero_add]
    exact this
theorem bys_fits {w : Tx} {f : Nat → Value} (h : bys w f) (o : okT w) {j : Nat} (hj : j < w.length) : fits .byte (f j) = true := by
  rw [h j hj]
  have := o.at hj
  simp only [fits, Bool.and_eq_true, decide_eq_true_eq]
  rw [Int32.le_iff_toInt_le, Int32.le_iff_toInt_le, iI_toInt (by unfold i32; omega)]
  exact ⟨by show (-128 : Int) ≤ _; omega, by show _ ≤ (127 : Int); omega⟩
section ALLOC
variable {Z : ZC} {y : MethodName} {cc : ByteArray} {nL : Nat} {rt : Option FieldType} {R : Room} {Γ Γ' : Gh → Prop} {n s pc : Nat} {lv : List (Option Value)} {st : List Value} {G0 : Gh}
theorem r_newE {ci idx N : Nat} {T : u_T} {Cn : String} {fs : List Value} (t : Nat) (C : CC Z y cc nL rt R) (d : decode cc pc = .ok (.new idx, 3)) (hc : vwC[ci]? = some (Cn, T, N)) (hin : ∀ w ∈ u_ws Cn T N, w ∈ lw_all) (ty0 : Nat → FieldType) (hty : ∀ k, k < N → parseFieldDescriptor (T k).2.2.1 = some (ty0 k)) (hcl : Cond.classLink y.cls idx Cn ∈ lw_all) (hinst : Cond.instantiable Cn N ∈ lw_all) (hini : Cond.initialized Cn ∈ lw_all) (hfs : ∀ j, j < N → defaultValue (ty0 j) = vp_V fs j) (hn : n + 1 ≤ R.cells) (hs : s + N ≤ R.slots)
    (kk : ∀ a, G0 a = none → WW Z nL (fun x => x = gup G0 a (t, .inl (ci, fs))) (n + 1) (s + N) (pc + 3) lv (.ref a :: st)) : WW Z nL (fun x => x = G0) n s pc lv st :=
  r_new t C d hc hin ty0 hty hcl hinst hini hfs hn hs (fun G a hG hn => by
    have e : G = G0 := hG
    subst e
    exact kk a hn)
theorem r_newaBE {N : Nat} {x : Int} (t : Nat) (C : CC Z y cc nL rt R) (d : decode cc pc = .ok (.newarray .byte, 2)) (harr : Cond.arrayClass .byte ∈ lw_all) (hx : x = (N : Int)) (hN : N ≤ 100000) (hn : n + 1 ≤ R.cells) (hs : s + N ≤ R.slots)
    (kk : ∀ a, G0 a = none → WW Z nL (fun z => z = gup G0 a (t, .inr (1, N, fun _ => .int (iI 0)))) (n + 1) (s + N) (pc + 2) lv (.ref a :: st)) : WW Z nL (fun x => x = G0) n s pc lv (.int (iI x) :: st) :=
  r_newaB t C d harr hx hN hn hs (fun G a hG hn => by
    have e : G = G0 := hG
    subst e
    exact kk a hn)
theorem r_anewE {own : String} {idx N : Nat} {x : Int} (t : Nat) (C : CC Z y cc nL rt R) (d : decode cc pc = .ok (.anewarray idx, 3)) (ho : y.cls = own) (hlink : Cond.classLink own idx "java/lang/Object" ∈ lw_all) (hx : x = (N : Int)) (hN : N ≤ 100000000) (hn : n + 1 ≤ R.cells) (hs : s + N ≤ R.slots)
    (kk : ∀ a, G0 a = none → WW Z nL (fun z => z = gup G0 a (t, .inr (2, N, fun _ => .null))) (n + 1) (s + N) (pc + 3) lv (.ref a :: st)) : WW Z nL (fun x => x = G0) n s pc lv (.int (iI x) :: st) :=
  r_anew t C d ho hlink hx hN hn hs (fun G a hG hn => by
    have e : G = G0 := hG
    subst e
    exact kk a hn)
/-- what an array of bytes of ours holds are bytes -/
theorem r_fits {a t N : Nat} {f : Nat → Value} (h : G0 a = some (t, .inr (1, N, f))) (ht : t ≠ 0) (k : (∀ j, j < N → fits .byte (f j) = true) → WW Z nL (fun x => x = G0) n s pc lv st) : WW Z nL (fun x => x = G0) n s pc lv st := by
  intro G H locs ls hG hI hl
  have e : G = G0 := hG
  subst e
  have := (hI.1 a _ h).arr
  obtain ⟨cell, -, -, -, -, -, -, h8⟩ := this
  exact k (h8.2 ht rfl).2.2 G H locs ls rfl hI hl
theorem shr1 : ∀ n, n < 4096 → nI n >>> (iI 1 &&& 31) = nI (n / 2) := by decide +kernel
theorem r_shr1 {a : Int} (C : CC Z y cc nL rt R) (d : decode cc pc = .ok (.ishr, 1)) (h0 : 0 ≤ a) (h1 : a < 4096) (k : WW Z nL Γ n s (pc + 1) lv (.int (iI (a / 2)) :: st)) : WW Z nL Γ n s pc lv (.int (iI 1) :: .int (iI a) :: st) := r_ishr C d (by
  obtain ⟨j, rfl⟩ : ∃ j : Nat, a = j := ⟨a.toNat, by omega⟩
  have e : iI (j : Int) >>> (iI 1 &&& 31) = iI ((j : Int) / 2) := by
    rw [iI_nI, shr1 j (by omega), ← iI_nI]
    rfl
  rw [e]
  exact k)
theorem r_aastZ {a N : Nat} {f : Nat → Value} {z : Int} {v : Value} (C : CC Z y cc nL rt R) (d : decode cc pc = .ok (.aastore, 1)) (h : ∀ G, Γ G → isObj G v ∧ ∃ t, t ≠ 0 ∧ G a = some (t, .inr (2, N, f)) ∧ Γ' (gup G a (t, .inr (2, N, vup f z.toNat v)))) (h0 : 0 ≤ z) (h1 : z < N) (hN : i32 N) (kk : WW Z nL Γ' n s (pc + 1) lv st) : WW Z nL Γ n s pc lv (v :: .int (iI z) :: .ref a :: st) := by
  refine r_aast (f := f) C d (fun G hG => ?_) (iI_in h0 h1 hN) kk
  obtain ⟨g0, t, g1, g2, g3⟩ := h G hG
  refine ⟨g0, t, g1, g2, ?_⟩
  rw [iI_clamp (by unfold i32 at *; omega)]
  exact g3
end ALLOC
theorem P2.new {a t ci : Nat} {fs : List Value} {b u k N : Nat} {f : Nat → Value} {G0 : Gh} (h : G0 a = some (t, .inl (ci, fs))) (hb : G0 b = none) : P2 a t ci fs b u k N f G0 (gup G0 b (u, .inr (k, N, f))) :=
  ⟨by rw [gup_ne G0 _ (fun e => by rw [e, hb] at h; cases h)]; exact h, gup_eq _ _ _, fun c q h1 _ h3 => by rw [gup_ne G0 _ h3]; exact h1⟩
theorem P2.sb {a t b m : Nat} {fs : List Value} {f : Nat → Value} {w : Tx} {mb n : Int} {G0 G : Gh} (h : P2 a t 9 fs b t 1 m f G0 G) (hf : fs = [.ref b, .int (iI 0), .int (iI mb), .int (iI n)]) (hn : n = (w.length : Nat)) (ho : okT w) (hl : w.length ≤ m) (hm : m ≤ 100000) (hb : bys w f) : SB G a t w m := by
  subst hn hf
  exact ⟨ho, hl, hm, b, f, mb, h.1, h.2.1, hb⟩
theorem FR.nil {G G' : Gh} (h : FR [] G G') (ts : List Nat) : FR ts G G' := h.wk (fun _ h => by cases h)
theorem okT.push {w : Tx} (h : okT w) {c : Nat} (hc : c < 128) : okT (w ++ [c]) := h.app (fun d hd => by
  have : d = c := by simpa using hd
  rw [this]; exact hc)
section CLONE
variable {Z : ZC} {y : MethodName} {cc : ByteArray} {nL : Nat} {rt : Option FieldType} {R : Room} {n s pc : Nat} {lv : List (Option Value)} {st : List Value} {G0 : Gh}
theorem r_cloneBE {idx a t N : Nat} {f : Nat → Value} (t1 : Nat) (C : CC Z y cc nL rt R) (d : decode cc pc = .ok (.invokevirtual idx, 3)) (hlink : Cond.methodLink y.cls idx ⟨"[B", "clone", "()Ljava/lang/Object;"⟩ ∈ lw_all) (ht : t ≠ 0) (h : G0 a = some (t, .inr (1, N, f))) (hn : n + 1 ≤ R.cells) (hs : s + N ≤ R.slots) (hfr : 1 ≤ R.frames) (hlo : (st.map fun v => v.category).sum + 14 ≤ R.locals)
    (kk : ∀ b, G0 b = none → WW Z nL (fun z => z = gup G0 b (t1, .inr (1, N, f))) (n + 1) (s + N) (pc + 3) lv (.ref b :: st)) : WW Z nL (fun z => z = G0) n s pc lv (.ref a :: st) :=
  r_cloneB t1 C d rfl hlink q353 q354 q355 q356 ht (g3 h) hn hs hfr hlo (fun G b hG hn => by
    have e : G = G0 := hG
    subst e
    exact kk b hn)
/-- a copy of bytes into a new array -/
theorem r_copyBE {idx a0 a t0 t n0 n1 : Nat} {f g : Nat → Value} {sp dp m : Int} {F : Nat → Value} (C : CC Z y cc nL rt R) (d : decode cc pc = .ok (.invokestatic idx, 3)) (hlink : Cond.methodLink y.cls idx arraycopyName ∈ lw_all) (ht : t ≠ 0) (h0 : G0 a0 = some (t0, .inr (1, n0, f))) (ha : G0 a = none) (hF : F = cpyV f g sp.toNat dp.toNat m.toNat) (hfit : ∀ i, i < m.toNat → fits .byte (f (sp.toNat + i)) = true)
    (h1 : 0 ≤ sp) (h2 : 0 ≤ dp) (h3 : 0 ≤ m) (h4 : sp + m ≤ n0) (h5 : dp + m ≤ n1) (hn0 : i32 n0) (hn1 : i32 n1) (hfr : 1 ≤ R.frames) (hlo : (st.map fun v => v.category).sum + (nativeFrameWords "java/lang/System" "arraycopy" 5 + 11) ≤ R.locals)
    (kk : WW Z nL (fun z => z = gup G0 a (t, .inr (1, n1, F))) n s (pc + 3) lv st) : WW Z nL (fun z => z = gup G0 a (t, .inr (1, n1, g))) n s pc lv (.int (iI m) :: .int (iI dp) :: .ref a :: .int (iI sp) :: .ref a0 :: st) :=
  r_copyB C d rfl hlink q364 q363 q95 ht (fun G hG => by
    have e : G = gup G0 a (t, .inr (1, n1, g)) := hG
    subst e
    refine ⟨?_, gup_eq _ _ _, ?_⟩
    · rw [gup_ne G0 _ (fun e => by rw [e, ha] at h0; cases h0)]
      exact h0
    · show gup (gup G0 a _) a _ = _
      rw [gup_gup, hF]) hfit h1 h2 h3 h4 h5 hn0 hn1 hfr hlo kk
/-- a copy of bytes over an array that is there -/
theorem r_copyBU {idx a0 a t0 t n0 n1 : Nat} {f g : Nat → Value} {sp dp m : Int} {F : Nat → Value} (C : CC Z y cc nL rt R) (d : decode cc pc = .ok (.invokestatic idx, 3)) (hlink : Cond.methodLink y.cls idx arraycopyName ∈ lw_all) (ht : t ≠ 0) (h0 : G0 a0 = some (t0, .inr (1, n0, f))) (ha : G0 a = some (t, .inr (1, n1, g))) (hF : F = cpyV f g sp.toNat dp.toNat m.toNat) (hfit : ∀ i, i < m.toNat → fits .byte (f (sp.toNat + i)) = true)
    (h1 : 0 ≤ sp) (h2 : 0 ≤ dp) (h3 : 0 ≤ m) (h4 : sp + m ≤ n0) (h5 : dp + m ≤ n1) (hn0 : i32 n0) (hn1 : i32 n1) (hfr : 1 ≤ R.frames) (hlo : (st.map fun v => v.category).sum + (nativeFrameWords "java/lang/System" "arraycopy" 5 + 11) ≤ R.locals)
    (kk : WW Z nL (fun z => z = gup G0 a (t, .inr (1, n1, F))) n s (pc + 3) lv st) : WW Z nL (fun z => z = G0) n s pc lv (.int (iI m) :: .int (iI dp) :: .ref a :: .int (iI sp) :: .ref a0 :: st) :=
  r_copyB (f := f) (g := g) C d rfl hlink q364 q363 q95 ht (fun G hG => by
    have e : G = G0 := hG
    rw [e]
    exact ⟨h0, ha, by rw [hF]⟩) hfit h1 h2 h3 h4 h5 hn0 hn1 hfr hlo kk
end CLONE
/-- a String and its bytes are made: nobody writes them any more -/
theorem STR.frz {G0 G : Gh} {a b : Nat} {f : Nat → Value} {w : Tx} (ha : G0 a = none) (hb : G0 b = none) (h1 : G a = some (9, .inl (7, [.ref b, .int (iI 0), .int (iI 0), .int (iI 0)]))) (h2 : G b = some (9, .inr (1, w.length, f))) (hw : bys w f) (ho : okT w) (hl : w.length ≤ 100000) (hf : ∀ c q, G0 c = some q → G c = some q) : ∃ G', (STR G' a w ∧ FR [] G0 G') ∧ ∀ c q, G' c = some q → ∃ t, G c = some (t, q.2) ∧ (q.1 ≠ 0 → t ≠ 0) := by
  have hne : a ≠ b := fun e => by rw [e, h2] at h1; cases h1
  refine ⟨gup (gup G b (0, .inr (1, w.length, f))) a (0, .inl (7, [.ref b, .int (iI 0), .int (iI 0), .int (iI 0)])), ⟨⟨ho, hl, b, f, .int (iI 0), .int (iI 0), gup_eq _ _ _, ?_, hw⟩, ?_⟩, ?_⟩
  · rw [gup_ne _ _ (Ne.symm hne)]
    exact gup_eq _ _ _
  · intro c q hc _
    rw [gup_ne _ _ (fun e => by rw [e, ha] at hc; cases hc), gup_ne _ _ (fun e => by rw [e, hb] at hc; cases hc)]
    exact hf c q hc
  · intro c q hc
    by_cases e : c = a
    · subst e
      rw [gup_eq] at hc
      cases hc
      exact ⟨9, h1, fun h => absurd rfl h⟩
    · rw [gup_ne _ _ e] at hc
      by_cases e2 : c = b
      · subst e2
        rw [gup_eq] at hc
        cases hc
        exact ⟨9, h2, fun h => absurd rfl h⟩
      · rw [gup_ne _ _ e2] at hc
        exact ⟨q.1, hc, fun h => h⟩
/-- a text n times -/
def repT (w : Tx) : Nat → Tx
  | 0 => []
  | n + 1 => repT w n ++ w
theorem repT_len (w : Tx) (n : Nat) : (repT w n).length = n * w.length := by
  induction n with
  | zero => simp [repT]
  | succ n ih => simp [repT, ih, Nat.succ_mul]
theorem repT_ok {w : Tx} (h : okT w) (n : Nat) : okT (repT w n) := by
  induction n with
  | zero => intro c hc; cases hc
  | succ n ih => exact ih.app h
theorem repT_at (w : Tx) (n : Nat) : ∀ j, j < n * w.length → tl (repT w n) j = tl w (j % w.length) := by
  induction n with
  | zero => intro j hj; simp at hj
  | succ n ih =>
    intro j hj
    show tl (repT w n ++ w) j = _
    rw [tl_app, repT_len]
    split
    · rename_i h; exact ih j h
    · rename_i h
      have hj2 : j - n * w.length < w.length := by rw [Nat.succ_mul] at hj; omega
      congr 1
      have e : j = (j - n * w.length) + w.length * n := by rw [Nat.mul_comm w.length n]; omega
      rw [e, Nat.add_mul_mod_self_left, Nat.mod_eq_of_lt (by omega)]
      have : j - n * w.length + w.length * n - n * w.length = j - n * w.length := by rw [Nat.mul_comm w.length n]; omega
      omega
theorem shl1 : ∀ n, n < 4096 → nI n <<< (iI 1 &&& 31) = nI (2 * n) := by decide +kernel
theorem r_shl1 {Z : ZC} {y : MethodName} {cc : ByteArray} {nL : Nat} {rt : Option FieldType} {R : Room} {Γ : Gh → Prop} {n s pc : Nat} {lv : List (Option Value)} {st : List Value} {a : Int} (C : CC Z y cc nL rt R) (d : decode cc pc = .ok (.ishl, 1)) (h0 : 0 ≤ a) (h1 : a < 4096) (k : WW Z nL Γ n s (pc + 1) lv (.int (iI (2 * a)) :: st)) : WW Z nL Γ n s pc lv (.int (iI 1) :: .int (iI a) :: st) := r_ishl C d (by
  obtain ⟨j, rfl⟩ : ∃ j : Nat, a = j := ⟨a.toNat, by omega⟩
  have e : iI (j : Int) <<< (iI 1 &&& 31) = iI (2 * (j : Int)) := by
    rw [iI_nI, shl1 j (by omega), ← iI_nI]
    rfl
  rw [e]
  exact k)
theorem r_ldcwZ {Z : ZC} {y : MethodName} {cc : ByteArray} {nL : Nat} {rt : Option FieldType} {R : Room} {Γ : Gh → Prop} {n s pc : Nat} {lv : List (Option Value)} {st : List Value} {own : String} {index : Nat} {v : Int32} {a : Int} (C : CC Z y cc nL rt R) (d : decode cc pc = .ok (.ldc_w index, 3)) (ho : y.cls = own) (hw : Cond.constant own index v ∈ lw_all) (hv : v = iI a) (k : WW Z nL Γ n s (pc + 3) lv (.int (iI a) :: st)) : WW Z nL Γ n s pc lv st := fun G H locs ls hG hI hl => lv_ldcw C.x C.b (ho ▸ C.o) (C.t _ hw) d (by rw [hv]; exact k G H locs ls hG hI hl)
theorem up0 {G : Gh} {x a : Nat} {p q : Nat × GE} (n : G x = none) (h : G a = some q) : gup G x p a = some q := by
  rw [gup_ne _ _ (fun e => by rw [e, n] at h; cases h)]
  exact h
theorem gup_none {G : Gh} {x a : Nat} {p : Nat × GE} (h : gup G x p a = none) : G a = none ∧ a ≠ x := by
  by_cases e : a = x
  · rw [e, gup_eq] at h; cases h
  · rw [gup_ne _ _ e] at h
    exact ⟨h, e⟩
theorem P2.frn {a t ci : Nat} {fs fs0 : List Value} {b u k N : Nat} {f : Nat → Value} {G0 G : Gh} {ts : List Nat} (h : P2 a t ci fs b u k N f G0 G) (h1 : G0 a = some (t, .inl (ci, fs0))) (h2 : G0 b = none) (ht : t ∈ ts) : FR ts G0 G := fun c q hc hq => by
  refine h.2.2 c q hc (fun e => ?_) (fun e => ?_)
  · rw [e, h1] at hc; cases hc; exact hq ht
  · rw [e, h2] at hc; cases hc
theorem P1.none {a t ci e : Nat} {fs : List Value} {G0 G : Gh} (h : P1 a t ci fs G0 G) (n : G e = Option.none) : G0 e = Option.none ∧ e ≠ a := by
  have hne : e ≠ a := fun z => by rw [z, h.1] at n; cases n
  refine ⟨?_, hne⟩
  cases hq : G0 e with
  | none => rfl
  | some q => rw [h.2 e q hq hne] at n; cases n
