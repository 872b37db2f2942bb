/-! ghost heaps: frames by owners' numbers, one or two cells that are written, texts -/
set_option maxRecDepth 100000
abbrev rmk (f c s lo : Nat) : Room := { frames := f, cells := c, slots := s, locals := lo }
/-- what isn't of the owners ts stays -/
def FR (ts : List Nat) (G G' : Gh) : Prop := ∀ b q, G b = some q → q.1 ∉ ts → G' b = some q
theorem FR.rf {ts : List Nat} {G : Gh} : FR ts G G := fun _ _ h _ => h
theorem FR.tr {ts : List Nat} {G G1 G2 : Gh} (h1 : FR ts G G1) (h2 : FR ts G1 G2) : FR ts G G2 := fun b q h hq => h2 b q (h1 b q h hq) hq
theorem FR.wk {ts us : List Nat} {G G' : Gh} (h : FR ts G G') (hs : ∀ t ∈ ts, t ∈ us) : FR us G G' := fun b q hb hq => h b q hb (fun z => hq (hs _ z))
theorem FR.new {ts : List Nat} {G : Gh} {a : Nat} {q : Nat × GE} (h : G a = none) : FR ts G (gup G a q) := fun b r hb _ => by
  rw [gup_ne G q (fun e => by rw [e, h] at hb; cases hb)]
  exact hb
theorem FR.up {ts : List Nat} {G : Gh} {a t : Nat} {e e' : GE} (h : G a = some (t, e)) (ht : t ∈ ts) (q' : Nat) : FR ts G (gup G a (q', e')) := fun b r hb hr => by
  rw [gup_ne G _ (fun z => by rw [z, h] at hb; cases hb; exact hr ht)]
  exact hb
/-- one object that is written; all else stays -/
def P1 (a t ci : Nat) (fs : List Value) (G0 G : Gh) : Prop := G a = some (t, .inl (ci, fs)) ∧ ∀ c q, G0 c = some q → c ≠ a → G c = some q
theorem P1.put {a t ci k : Nat} {fs : List Value} {v : Value} {G0 G : Gh} (h : P1 a t ci fs G0 G) : P1 a t ci (fs.set k v) G0 (gup G a (t, .inl (ci, fs.set k v))) :=
  ⟨gup_eq _ _ _, fun c q h1 h2 => by rw [gup_ne G _ h2]; exact h.2 c q h1 h2⟩
theorem P1.rf {a t ci : Nat} {fs : List Value} {G : Gh} (h : G a = some (t, .inl (ci, fs))) : P1 a t ci fs G G := ⟨h, fun _ _ h1 _ => h1⟩
/-- an object and an array -/
def P2 (a t ci : Nat) (fs : List Value) (b u k N : Nat) (f : Nat → Value) (G0 G : Gh) : Prop := G a = some (t, .inl (ci, fs)) ∧ G b = some (u, .inr (k, N, f)) ∧ ∀ c q, G0 c = some q → c ≠ a → c ≠ b → G c = some q
theorem P2.ne {a t ci : Nat} {fs : List Value} {b u k N : Nat} {f : Nat → Value} {G0 G : Gh} (h : P2 a t ci fs b u k N f G0 G) : a ≠ b := fun e => by
  have h1 := h.1
  have h2 := h.2.1
  rw [e, h2] at h1
  cases h1
theorem P2.put {a t ci j : Nat} {fs : List Value} {v : Value} {b u k N : Nat} {f : Nat → Value} {G0 G : Gh} (h : P2 a t ci fs b u k N f G0 G) : P2 a t ci (fs.set j v) b u k N f G0 (gup G a (t, .inl (ci, fs.set j v))) :=
  ⟨gup_eq _ _ _, by rw [gup_ne G _ (Ne.symm h.ne)]; exact h.2.1, fun c q h1 h2 h3 => by rw [gup_ne G _ h2]; exact h.2.2 c q h1 h2 h3⟩
theorem P2.ast {a t ci : Nat} {fs : List Value} {b u k N : Nat} {f f' : Nat → Value} {G0 G : Gh} (h : P2 a t ci fs b u k N f G0 G) : P2 a t ci fs b u k N f' G0 (gup G b (u, .inr (k, N, f'))) :=
  ⟨by rw [gup_ne G _ h.ne]; exact h.1, gup_eq _ _ _, fun c q h1 h2 h3 => by rw [gup_ne G _ h3]; exact h.2.2 c q h1 h2 h3⟩
theorem P2.rf {a t ci : Nat} {fs : List Value} {b u k N : Nat} {f : Nat → Value} {G : Gh} (h1 : G a = some (t, .inl (ci, fs))) (h2 : G b = some (u, .inr (k, N, f))) : P2 a t ci fs b u k N f G G := ⟨h1, h2, fun _ _ h _ _ => h⟩
theorem P2.fr {a t ci : Nat} {fs fs0 : List Value} {b u k N N0 k0 : Nat} {f f0 : Nat → Value} {G0 G : Gh} {ts : List Nat} (h : P2 a t ci fs b u k N f G0 G) (h1 : G0 a = some (t, .inl (ci, fs0))) (h2 : G0 b = some (u, .inr (k0, N0, f0)) ∨ G0 b = none) (ht : t ∈ ts) (hu : u ∈ ts) : FR ts G0 G := fun c q hc hq => by
  refine h.2.2 c q hc (fun e => ?_) (fun e => ?_)
  · rw [e, h1] at hc; cases hc; exact hq ht
  · rcases h2 with h2 | h2
    · rw [e, h2] at hc; cases hc; exact hq hu
    · rw [e, h2] at hc; cases hc
theorem P1.fr {a t ci : Nat} {fs fs0 : List Value} {G0 G : Gh} {ts : List Nat} (h : P1 a t ci fs G0 G) (h1 : G0 a = some (t, .inl (ci, fs0))) (ht : t ∈ ts) : FR ts G0 G := fun c q hc hq => by
  refine h.2 c q hc (fun e => ?_)
  rw [e, h1] at hc; cases hc; exact hq ht
/-! texts: rows of letters below 128 -/
abbrev Tx : Type := List Nat
abbrev tl (w : Tx) (j : Nat) : Nat := w.getD j 0
def okT (w : Tx) : Prop := ∀ c ∈ w, c < 128
def bys (w : Tx) (f : Nat → Value) : Prop := ∀ j : Nat, j < w.length → f j = .int (iI (tl w j : Nat))
theorem okT.at {w : Tx} (h : okT w) {j : Nat} (hj : j < w.length) : tl w j < 128 := by
  unfold tl
  rw [List.getD_eq_getElem?_getD, List.getElem?_eq_getElem hj]
  exact h _ (List.getElem_mem hj)
/-- a String: nobody writes it -/
def STR (G : Gh) (a : Nat) (w : Tx) : Prop := okT w ∧ w.length ≤ 100000 ∧ ∃ b f h z, G a = some (0, .inl (7, [.ref b, .int (iI 0), h, z])) ∧ G b = some (0, .inr (1, w.length, f)) ∧ bys w f
/-- a StringBuilder of owner t, with room m -/
def SB (G : Gh) (a t : Nat) (w : Tx) (m : Nat) : Prop := okT w ∧ w.length ≤ m ∧ m ≤ 100000 ∧ ∃ b f mb, G a = some (t, .inl (9, [.ref b, .int (iI 0), .int (iI mb), .int (iI (w.length : Nat))])) ∧ G b = some (t, .inr (1, m, f)) ∧ bys w f
theorem STR.fr {G G' : Gh} {a : Nat} {w : Tx} {ts : List Nat} (h : STR G a w) (hf : FR ts G G') (h0 : 0 ∉ ts) : STR G' a w := by
  obtain ⟨h1, h2, b, f, q, z, h3, h4, h5⟩ := h
  exact ⟨h1, h2, b, f, q, z, hf _ _ h3 h0, hf _ _ h4 h0, h5⟩
theorem SB.fr {G G' : Gh} {a t m : Nat} {w : Tx} {ts : List Nat} (h : SB G a t w m) (hf : FR ts G G') (h0 : t ∉ ts) : SB G' a t w m := by
  obtain ⟨h1, h2, h3, b, f, mb, h4, h5, h6⟩ := h
  exact ⟨h1, h2, h3, b, f, mb, hf _ _ h4 h0, hf _ _ h5 h0, h6⟩
/-! rows over numbers -/
section ZROW
variable {Z : ZC} {y : MethodName} {cc : ByteArray} {nL : Nat} {rt : Option FieldType} {R : Room} {Γ Γ' : Gh → Prop} {n s pc : Nat} {lv : List (Option Value)} {st : List Value}
theorem shr0 (x : Int32) : x >>> (iI 0 &&& 31) = x := by
  have e : (iI 0 &&& 31 : Int32) = 0 := by decide
  rw [e]
  exact sb_shr0 x
theorem shl0 (x : Int32) : x <<< (iI 0 &&& 31) = x := by
  have e : (iI 0 &&& 31 : Int32) = 0 := by decide
  rw [e]
  exact sb_shl0 x
theorem r_shr0 {a : Int} (C : CC Z y cc nL rt R) (d : decode cc pc = .ok (.ishr, 1)) (k : WW Z nL Γ n s (pc + 1) lv (.int (iI a) :: st)) : WW Z nL Γ n s pc lv (.int (iI 0) :: .int (iI a) :: st) := r_ishr C d (by rw [shr0]; exact k)
theorem r_shl0 {a : Int} (C : CC Z y cc nL rt R) (d : decode cc pc = .ok (.ishl, 1)) (k : WW Z nL Γ n s (pc + 1) lv (.int (iI a) :: st)) : WW Z nL Γ n s pc lv (.int (iI 0) :: .int (iI a) :: st) := r_ishl C d (by rw [shl0]; exact k)
theorem iI_ofNat {a : Int} {k : Nat} (h : a = k) : iI a = Int32.ofNat k := by rw [h]; exact Int32.ofInt_eq_ofNat
theorem and_255 : ∀ n, n < 256 → nI n &&& nI 255 = nI n := by decide +kernel
theorem r_i2cZ {a : Int} (C : CC Z y cc nL rt R) (d : decode cc pc = .ok (.i2c, 1)) (h0 : 0 ≤ a) (h1 : a < 256) (k : WW Z nL Γ n s (pc + 1) lv (.int (iI a) :: st)) : WW Z nL Γ n s pc lv (.int (iI a) :: st) := r_i2c C d (by
  obtain ⟨j, rfl⟩ : ∃ j : Nat, a = j := ⟨a.toNat, by omega⟩
  rw [iI_nI]
  exact (sb_byte j (by omega)).2.1) k
theorem r_i2bZ {a : Int} (C : CC Z y cc nL rt R) (d : decode cc pc = .ok (.i2b, 1)) (h0 : -128 ≤ a) (h1 : a < 128) (k : WW Z nL Γ n s (pc + 1) lv (.int (iI a) :: st)) : WW Z nL Γ n s pc lv (.int (iI a) :: st) := r_i2b C d (by
  apply Int32.toInt_inj.mp
  rw [Int8.toInt_toInt32, Int32.toInt_toInt8, iI_toInt (by unfold i32; omega)]
  rw [Int.bmod_eq_of_le (by omega) (by omega)]) k
theorem r_andFF {a : Int} (C : CC Z y cc nL rt R) (d : decode cc pc = .ok (.iand, 1)) (h0 : 0 ≤ a) (h1 : a < 256) (k : WW Z nL Γ n s (pc + 1) lv (.int (iI a) :: st)) : WW Z nL Γ n s pc lv (.int (iI 255) :: .int (iI a) :: st) := r_iand C d (by
  have e : iI a &&& iI 255 = iI a := by
    obtain ⟨j, rfl⟩ : ∃ j : Nat, a = j := ⟨a.toNat, by omega⟩
    rw [show (255 : Int) = ((255 : Nat) : Int) from rfl, iI_nI, iI_nI]
    exact and_255 j (by omega)
  rw [e]
  exact k)
theorem r_baldZ {a N : Nat} {f : Nat → Value} {z : Int} {v : Value} (C : CC Z y cc nL rt R) (d : decode cc pc = .ok (.baload, 1)) (h : ∀ G, Γ G → ∃ t, G a = some (t, .inr (1, N, f))) (h0 : 0 ≤ z) (h1 : z < N) (hN : i32 N) (hv : f z.toNat = v) (kk : WW Z nL Γ n s (pc + 1) lv (v :: st)) : WW Z nL Γ n s pc lv (.int (iI z) :: .ref a :: st) :=
  r_bald C d h (iI_in h0 h1 hN) (by rw [iI_clamp (by unfold i32 at *; omega)]; exact hv) kk
theorem r_aaldZ {a N : Nat} {f : Nat → Value} {z : Int} {v : Value} (C : CC Z y cc nL rt R) (d : decode cc pc = .ok (.aaload, 1)) (h : ∀ G, Γ G → ∃ t, G a = some (t, .inr (2, N, f))) (h0 : 0 ≤ z) (h1 : z < N) (hN : i32 N) (hv : f z.toNat = v) (kk : WW Z nL Γ n s (pc + 1) lv (v :: st)) : WW Z nL Γ n s pc lv (.int (iI z) :: .ref a :: st) :=
  r_aald C d h (iI_in h0 h1 hN) (by rw [iI_clamp (by unfold i32 at *; omega)]; exact hv) kk
theorem r_alenZ {a j N : Nat} {f : Nat → Value} (C : CC Z y cc nL rt R) (d : decode cc pc = .ok (.arraylength, 1)) (h : ∀ G, Γ G → ∃ t, G a = some (t, .inr (j, N, f))) (kk : WW Z nL Γ n s (pc + 1) lv (.int (iI (N : Nat)) :: st)) : WW Z nL Γ n s pc lv (.ref a :: st) := r_alen C d h (iI_nI N).symm kk
theorem r_bastZ {a N : Nat} {f : Nat → Value} {z x : Int} (C : CC Z y cc nL rt R) (d : decode cc pc = .ok (.bastore, 1)) (h : ∀ G, Γ G → ∃ t, t ≠ 0 ∧ G a = some (t, .inr (1, N, f)) ∧ Γ' (gup G a (t, .inr (1, N, vup f z.toNat (.int (iI x)))))) (h0 : 0 ≤ z) (h1 : z < N) (hN : i32 N) (hx : -128 ≤ x ∧ x < 128) (kk : WW Z nL Γ' n s (pc + 1) lv st) : WW Z nL Γ n s pc lv (.int (iI x) :: .int (iI z) :: .ref a :: st) := by
  refine r_bast (f := f) C d (fun G hG => ?_) (iI_in h0 h1 hN) kk
  obtain ⟨t, g1, g2, g3⟩ := h G hG
  refine ⟨t, g1, g2, ?_⟩
  rw [iI_clamp (by unfold i32 at *; omega)]
  have e : narrow .byte (.int (iI x)) = .int (iI x) := by
    have e2 : (iI x).toInt8.toInt32 = iI x := by
      apply Int32.toInt_inj.mp
      rw [Int8.toInt_toInt32, Int32.toInt_toInt8, iI_toInt (by unfold i32; omega)]
      rw [Int.bmod_eq_of_le (by omega) (by omega)]
    simp only [narrow, e2]
  rw [e]
  exact g3
theorem r_newaB {N : Nat} {x : Int} (t : Nat) (C : CC Z y cc nL rt R) (d : decode cc pc = .ok (.newarray .byte, 2)) (harr : Cond.arrayClass .byte ∈ lw_all) (hx : x = (N : Int)) (hN : N ≤ 100000) (hn : n + 1 ≤ R.cells) (hs : s + N ≤ R.slots)
    (kk : ∀ G a, Γ G → G a = none → WW Z nL (fun z => z = gup G a (t, .inr (1, N, fun _ => .int (iI 0)))) (n + 1) (s + N) (pc + 2) lv (.ref a :: st)) : WW Z nL Γ n s pc lv (.int (iI x) :: st) := by
  subst hx
  have i0 : i32 (N : Int) := by unfold i32; omega
  exact r_newa (atype := .byte) (j := 1) (N := N) (f := fun _ => .int (iI 0)) t C d rfl (by decide) harr (by rw [show (0 : Int32) = iI 0 from rfl, iI_lt i0 i32_0]; omega) (by rw [iI_clamp i0]; omega) (by show N * 1 ≤ _; omega) (fun _ _ => rfl) hn hs kk
end ZROW
