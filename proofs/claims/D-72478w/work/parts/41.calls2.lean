/-! the words that the other calls ask -/
set_option maxRecDepth 100000
theorem lw_F {own : String} {idx : Nat} {C : String} {x y : MethodName} {b : ByteArray} {L : Nat} {r : Option FieldType} (h1 : Cond.methodLink own idx x ∈ lw_all) (h2 : Cond.selects C x y ∈ lw_all) (h3 : Cond.instanceMethod y ∈ lw_all) (h4 : Cond.initialized y.cls ∈ lw_all) (h5 : Cond.code y b L r ∈ lw_all) : GoodIn lw_all (va_wsF own idx C x y (ws_ y b L r)) := by
  refine lw_app ?_ (lw_meth h5)
  intro w hw
  simp only [List.mem_cons, List.not_mem_nil, or_false] at hw
  rcases hw with e | e | e | e
  · rw [e]; exact h1
  · rw [e]; exact h2
  · rw [e]; exact h3
  · rw [e]; exact h4
theorem lw_SU {own : String} {idx : Nat} {y : MethodName} {b : ByteArray} {L : Nat} {r : Option FieldType} (h1 : Cond.methodLink own idx y ∈ lw_all) (h2 : Cond.sameMethod y.cls y.cls y.name y.desc ∈ lw_all) (h3 : Cond.superclass own y.cls ∈ lw_all) (h4 : Cond.instanceMethod y ∈ lw_all) (h5 : Cond.initialized y.cls ∈ lw_all) (h6 : Cond.code y b L r ∈ lw_all) : GoodIn lw_all (va_wsSU own idx y (ws_ y b L r)) := by
  refine lw_app ?_ (lw_meth h6)
  intro w hw
  simp only [List.mem_cons, List.not_mem_nil, or_false] at hw
  rcases hw with e | e | e | e | e
  · rw [e]; exact h1
  · rw [e]; exact h2
  · rw [e]; exact h3
  · rw [e]; exact h4
  · rw [e]; exact h5
theorem lw_two {w : Cond} (h : w ∈ dwL) : w ∈ lw_all ++ dwL ∧ ((w.onTables && w.keeps) = true ∨ ∃ ty, w = .arrayClass ty) := ⟨List.mem_append_right _ h, Or.inl (dwL_ok w h)⟩
theorem lw_one {w : Cond} (h : w ∈ lw_all) : w ∈ lw_all ++ dwL ∧ ((w.onTables && w.keeps) = true ∨ ∃ ty, w = .arrayClass ty) := ⟨List.mem_append_left _ h, (lw_self w h).2⟩
theorem lw_U {own : String} {idx : Nat} {C owner : String} {x y : MethodName} {b : ByteArray} {L : Nat} {r : Option FieldType} (h1 : Cond.methodLink own idx x ∈ lw_all) (h2 : Cond.sameMethod x.cls owner x.name x.desc ∈ lw_all) (h3 : Cond.selects C x y ∈ lw_all ∨ Cond.selects C x y ∈ dwL) (h4 : Cond.instanceMethod y ∈ lw_all) (h5 : Cond.initialized y.cls ∈ lw_all) (h6 : Cond.code y b L r ∈ lw_all) : GoodIn (lw_all ++ dwL) (va_wsU own idx C owner x y (ws_ y b L r)) := by
  intro w hw
  rcases List.mem_append.mp hw with e | e
  · simp only [List.mem_cons, List.not_mem_nil, or_false] at e
    rcases e with e | e | e | e | e
    · rw [e]; exact lw_one h1
    · rw [e]; exact lw_one h2
    · rw [e]
      rcases h3 with h3 | h3
      · exact lw_one h3
      · exact lw_two h3
    · rw [e]; exact lw_one h4
    · rw [e]; exact lw_one h5
  · exact goodIn_app (lw_meth h6) w e
section CALLO
variable {Z : ZC} {y : MethodName} {cc : ByteArray} {nL : Nat} {rt : Option FieldType} {R : Room} {Γ : Gh → Prop} {n s pc : Nat} {lv : List (Option Value)} {st : List Value}
variable {y2 x2 : MethodName} {cc2 : ByteArray} {nL2 idx : Nat} {rt2 : Option FieldType} {R2 : Room} {As rest : List Value} {post2 : Option Value → Gh → Prop}
/-- an overriding method -/
theorem r_invO {Cn owner : String} {T : u_T} {own : String} {b ci N m0 : Nat} {b0 : ByteArray} {r0 : Option FieldType} (k : Nat) (C : CC Z y cc nL rt R) (d : decode cc pc = .ok (.invokevirtual idx, 3)) (hM : MG (zl Z) (zX Z) y2 cc2 nL2 rt2 R2 (.ref b :: As) Γ post2) (hb : ∀ G, Γ G → ∃ t fs, G b = some (t, .inl (ci, fs))) (hci : vwC[ci]? = some (Cn, T, N)) (ho : y.cls = own) (hw : GoodIn lw_all (va_wsO own idx Cn owner x2 y2 (ws_ y2 cc2 nL2 rt2))) (h0 : Cond.code ⟨owner, x2.name, x2.desc⟩ b0 m0 r0 ∈ lw_all) (hd : owner ≠ "java/lang/invoke/MethodHandle" ∧ owner ≠ "java/lang/invoke/VarHandle" ∧ (parseMethodDescriptor x2.desc).map (fun d => d.parameters.length) = some k) (hk : As.length = k) (hst : st = As.reverse ++ .ref b :: rest) (hR : R2.frames + 1 ≤ R.frames ∧ 8 + (nL2 + 11) + R2.locals ≤ R.locals) (hr : (rest.map fun v => v.category).sum ≤ 8) (hc : n + R2.cells ≤ R.cells ∧ s + R2.slots ≤ R.slots)
    (kk : ∀ v G', post2 v G' → WW Z nL (fun x => x = G') (n + R2.cells) (s + R2.slots) (pc + 3) lv (v.toList ++ rest)) : WW Z nL Γ n s pc lv st := by
  subst ho
  intro G H locs ls hG hI hl
  have hR' := C.rm
  exact r_back rfl hI.2 hl (va_runU (As := As) (rest := rest) C.f hM (va_cwO k C.t hw rfl rfl rfl h0 hd (by rw [hR']; exact hR)) (preV_of C hG hI hb hci) rfl hk hl.1 hst (lv_room hr) d (by rw [hR']; exact hc)) kk
end CALLO
theorem lw_O {own : String} {idx : Nat} {C owner : String} {x y : MethodName} {b : ByteArray} {L : Nat} {r : Option FieldType} (h1 : Cond.methodLink own idx x ∈ lw_all) (h2 : Cond.sameMethod x.cls owner x.name x.desc ∈ lw_all) (h7 : Cond.instanceMethod ⟨owner, x.name, x.desc⟩ ∈ lw_all) (h3 : Cond.selects C x y ∈ lw_all) (h4 : Cond.instanceMethod y ∈ lw_all) (h5 : Cond.initialized y.cls ∈ lw_all) (h6 : Cond.code y b L r ∈ lw_all) : GoodIn lw_all (va_wsO own idx C owner x y (ws_ y b L r)) := by
  refine lw_app ?_ (lw_meth h6)
  intro w hw
  simp only [List.mem_cons, List.not_mem_nil, or_false] at hw
  rcases hw with e | e | e | e | e | e
  · rw [e]; exact h1
  · rw [e]; exact h2
  · rw [e]; exact h7
  · rw [e]; exact h3
  · rw [e]; exact h4
  · rw [e]; exact h5
/-- an entry of a method whose class has members of the machine's own, this one not among them -/
theorem MG.ofF {l : Launch} {X : XE} {y : MethodName} {cc : ByteArray} {nL : Nat} {rt : Option FieldType} {R : Room} {args : List Value} {Γ : Gh → Prop} {post : Option Value → Gh → Prop} (hy : plainFor y = true) (hL : (lg_sl args).length ≤ nL)
    (body : ∀ Z : ZC, CC Z y cc nL rt R → zX Z = X → zl Z = l → zQ Z = gMQ Z R post → WW Z nL Γ 0 0 0 (lv0 0 nL args) []) : MG l X y cc nL rt R args Γ post := by
  refine va_MetF (cc := cc) (maxL := nL) (ret := rt) hy rfl ?_
  intro p e s m as below meth c s₁ B hml hv
  obtain ⟨rfl, hE, G, hG, hH⟩ := hv
  have hts := atoms_spec (ws := ws_ y cc nL rt) B.pre
  have hts : ∀ w ∈ lw_all, w.before _ s = true := fun w h => hts w (List.mem_cons_of_mem _ h)
  have hl := lv_entry args (n := nL) hL
  rw [lg_entry_eq]
  generalize (lg_sl args ++ List.replicate (nL - (lg_sl args).length) Slot.unset).toArray = ls at hl ⊢
  let Z : ZC := (X, p, l, e, s, m, args.toArray, below, meth, c, R, MQ below (gQ X post) args.toArray s R.cells R.slots (fun q => X.2.1 ≤ q))
  have C : CC Z y cc nL rt R := ⟨⟨B.exec, B.bytes, hml, findClass_of_methodNamed B.named, hts⟩, B.notSynchronized, B.returns, rfl, hE, (name_of_methodNamed B.named B.method).1⟩
  exact body Z C rfl rfl rfl G s.heap [] ls hG ⟨hH, va_S.rf⟩ ⟨hl.1, hl.2.1, fun k v h => hl.2.2 (k, v) (by have := lv0_at args 0 nL k v h; rw [Nat.zero_add] at this; exact this)⟩
