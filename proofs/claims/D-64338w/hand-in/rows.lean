section
-- ===== PART A: goes FIRST, ahead of the names: the tables' words, and 'selects' of the private methods out of them =====
/-- a private method of a class that the tables say can be made, by its rows of tables_1 -/
def lw_okq (q : MethodName × Nat) : Prop := (q.1.cls ≠ "java/lang/invoke/MethodHandle" ∧ q.1.cls ≠ "java/lang/invoke/VarHandle") ∧ Cond.instantiable q.1.cls q.2 ∈ tables_1 ∧ Cond.privateMethod q.1 ∈ tables_1 ∧ Cond.instanceMethod q.1 ∈ tables_1
set_option maxRecDepth 100000
theorem lw_p0 : lw_okq (⟨"SpongePairs", "put", "(II)V"⟩, 15) := ⟨⟨by decide +kernel, by decide +kernel⟩, List.mem_of_getElem? (i := 4) rfl, List.mem_of_getElem? (i := 71) rfl, List.mem_of_getElem? (i := 72) rfl⟩
theorem lw_p1 : lw_okq (⟨"SpongePairs", "permute", "()V"⟩, 15) := ⟨⟨by decide +kernel, by decide +kernel⟩, List.mem_of_getElem? (i := 4) rfl, List.mem_of_getElem? (i := 75) rfl, List.mem_of_getElem? (i := 76) rfl⟩
theorem lw_p2 : lw_okq (⟨"SpongePairs", "mixColumns", "()V"⟩, 15) := ⟨⟨by decide +kernel, by decide +kernel⟩, List.mem_of_getElem? (i := 4) rfl, List.mem_of_getElem? (i := 79) rfl, List.mem_of_getElem? (i := 80) rfl⟩
theorem lw_p3 : lw_okq (⟨"SpongePairs", "move", "()V"⟩, 15) := ⟨⟨by decide +kernel, by decide +kernel⟩, List.mem_of_getElem? (i := 4) rfl, List.mem_of_getElem? (i := 86) rfl, List.mem_of_getElem? (i := 87) rfl⟩
theorem lw_p4 : lw_okq (⟨"SpongePairs", "mixRows", "()V"⟩, 15) := ⟨⟨by decide +kernel, by decide +kernel⟩, List.mem_of_getElem? (i := 4) rfl, List.mem_of_getElem? (i := 90) rfl, List.mem_of_getElem? (i := 91) rfl⟩
theorem lw_p5 : lw_okq (⟨"SpongePairs", "at", "(I)I"⟩, 15) := ⟨⟨by decide +kernel, by decide +kernel⟩, List.mem_of_getElem? (i := 4) rfl, List.mem_of_getElem? (i := 98) rfl, List.mem_of_getElem? (i := 99) rfl⟩
theorem lw_p6 : lw_okq (⟨"SpongePairsModel", "put", "(II)V"⟩, 9) := ⟨⟨by decide +kernel, by decide +kernel⟩, List.mem_of_getElem? (i := 110) rfl, List.mem_of_getElem? (i := 157) rfl, List.mem_of_getElem? (i := 158) rfl⟩
theorem lw_p7 : lw_okq (⟨"SpongePairsModel", "permute", "()V"⟩, 9) := ⟨⟨by decide +kernel, by decide +kernel⟩, List.mem_of_getElem? (i := 110) rfl, List.mem_of_getElem? (i := 164) rfl, List.mem_of_getElem? (i := 165) rfl⟩
theorem lw_p8 : lw_okq (⟨"SpongePairsModel", "mix", "()V"⟩, 9) := ⟨⟨by decide +kernel, by decide +kernel⟩, List.mem_of_getElem? (i := 110) rfl, List.mem_of_getElem? (i := 168) rfl, List.mem_of_getElem? (i := 169) rfl⟩
theorem lw_p9 : lw_okq (⟨"SpongePairsModel", "move", "()V"⟩, 9) := ⟨⟨by decide +kernel, by decide +kernel⟩, List.mem_of_getElem? (i := 110) rfl, List.mem_of_getElem? (i := 175) rfl, List.mem_of_getElem? (i := 176) rfl⟩
theorem lw_p10 : lw_okq (⟨"SpongePairsModel", "join", "()V"⟩, 9) := ⟨⟨by decide +kernel, by decide +kernel⟩, List.mem_of_getElem? (i := 110) rfl, List.mem_of_getElem? (i := 179) rfl, List.mem_of_getElem? (i := 180) rfl⟩
def lw_privs_1 : List (MethodName × Nat) := [(⟨"SpongePairs", "put", "(II)V"⟩, 15), (⟨"SpongePairs", "permute", "()V"⟩, 15), (⟨"SpongePairs", "mixColumns", "()V"⟩, 15), (⟨"SpongePairs", "move", "()V"⟩, 15), (⟨"SpongePairs", "mixRows", "()V"⟩, 15), (⟨"SpongePairs", "at", "(I)I"⟩, 15), (⟨"SpongePairsModel", "put", "(II)V"⟩, 9), (⟨"SpongePairsModel", "permute", "()V"⟩, 9), (⟨"SpongePairsModel", "mix", "()V"⟩, 9), (⟨"SpongePairsModel", "move", "()V"⟩, 9), (⟨"SpongePairsModel", "join", "()V"⟩, 9)]
theorem lw_r1 : ∀ q ∈ lw_privs_1, lw_okq q := List.forall_mem_cons.mpr ⟨lw_p0, List.forall_mem_cons.mpr ⟨lw_p1, List.forall_mem_cons.mpr ⟨lw_p2, List.forall_mem_cons.mpr ⟨lw_p3, List.forall_mem_cons.mpr ⟨lw_p4, List.forall_mem_cons.mpr ⟨lw_p5, List.forall_mem_cons.mpr ⟨lw_p6, List.forall_mem_cons.mpr ⟨lw_p7, List.forall_mem_cons.mpr ⟨lw_p8, List.forall_mem_cons.mpr ⟨lw_p9, List.forall_mem_cons.mpr ⟨lw_p10, fun _ h => absurd h List.not_mem_nil⟩⟩⟩⟩⟩⟩⟩⟩⟩⟩⟩
def lw_privs : List (MethodName × Nat) := lw_privs_1
def lw_tbl : List Cond := k2_sels lw_privs ++ tables_1
theorem lw_privs_ok : ∀ q ∈ lw_privs, lw_okq q := lw_r1
-- ===== ONE list of words for every method: the tables' words that hold all through a run =====
def lw_all : List Cond := lw_tbl.filter goodWord
/-- a word of the tables by its place: claim/WORDS.tsv -/
theorem lw_w {w : Cond} (i : Nat) (h : lw_tbl[i]? = some w) (g : goodWord w = true) : w ∈ lw_all := List.mem_filter.mpr ⟨List.mem_of_getElem? h, g⟩
theorem lw_all_tbl {w : Cond} (h : w ∈ lw_all) : w ∈ lw_tbl := (List.mem_filter.mp h).1
theorem lw_self : GoodIn lw_all lw_all := fun w h => ⟨h, good_of_word (List.mem_filter.mp h).2⟩
/-- a class's field words, by their places -/
theorem lw_in (ws : List Cond) (ps : List Nat) (hp : ws = ps.filterMap (fun i => lw_tbl[i]?)) (hg : ws.all goodWord = true) : ∀ w ∈ ws, w ∈ lw_all := by
  intro w h
  have h1 := List.all_eq_true.mp hg w h
  rw [hp] at h
  obtain ⟨i, -, hi⟩ := List.mem_filterMap.mp h
  exact lw_w i hi h1
/-- the words of a contract for the method y with code b, L locals, answer r -/
abbrev ws_ (y : MethodName) (b : ByteArray) (L : Nat) (r : Option FieldType) : List Cond := Cond.code y b L r :: lw_all
theorem lw_meth {y : MethodName} {b : ByteArray} {L : Nat} {r : Option FieldType} (h : Cond.code y b L r ∈ lw_all) : GoodIn lw_all (ws_ y b L r) := by
  intro w hw
  rcases List.mem_cons.mp hw with e | e
  · rw [e]
    exact lw_self _ h
  · exact lw_self _ e
theorem lw_app {a c : List Cond} (ha : ∀ w ∈ a, w ∈ lw_all) (hc : GoodIn lw_all c) : GoodIn lw_all (a ++ c) := by
  intro w hw
  rcases List.mem_append.mp hw with e | e
  · exact lw_self w (ha w e)
  · exact hc w e
/-- what a call through an object asks: cwV n hts (lw_V ..) -/
theorem lw_V {own : String} {idx : Nat} {C : String} {y : MethodName} {b : ByteArray} {L : Nat} {r : Option FieldType} (h1 : Cond.methodLink own idx y ∈ lw_all) (h2 : Cond.instanceMethod y ∈ lw_all) (h3 : Cond.selects C y y ∈ lw_all) (h4 : Cond.initialized C ∈ lw_all) (h5 : Cond.code y b L r ∈ lw_all) : GoodIn lw_all (wsV own idx C y (ws_ y b L r)) := by
  refine lw_app ?_ (lw_meth h5)
  intro w hw
  simp only [List.mem_cons, List.not_mem_nil, or_false] at hw
  rcases hw with e | e | e | e
  · rw [e]; exact h1
  · rw [e]; exact h2
  · rw [e]; exact h3
  · rw [e]; exact h4
/-- what a static call asks: va_cwS n hts (lw_S ..) -/
theorem lw_S {own : String} {idx : Nat} {y : MethodName} {b : ByteArray} {L : Nat} {r : Option FieldType} (h1 : Cond.methodLink own idx y ∈ lw_all) (h2 : Cond.static y ∈ lw_all) (h3 : Cond.initialized y.cls ∈ lw_all) (h4 : Cond.code y b L r ∈ lw_all) : GoodIn lw_all (va_wsS own idx y (ws_ y b L r)) := by
  refine lw_app ?_ (lw_meth h4)
  intro w hw
  simp only [List.mem_cons, List.not_mem_nil, or_false] at hw
  rcases hw with e | e | e
  · rw [e]; exact h1
  · rw [e]; exact h2
  · rw [e]; exact h3
/-- the words of a contract for a method WITH HANDLERS (hh: its table) -/
abbrev wsW_ (y : MethodName) (b : ByteArray) (L : Nat) (r : Option FieldType) (hh : List (Nat × Nat × Nat × Nat)) : List Cond := Cond.codeWith y b L r hh :: lw_all
theorem lw_methW {y : MethodName} {b : ByteArray} {L : Nat} {r : Option FieldType} {hh : List (Nat × Nat × Nat × Nat)} (h : Cond.codeWith y b L r hh ∈ lw_all) : GoodIn lw_all (wsW_ y b L r hh) := by
  intro w hw
  rcases List.mem_cons.mp hw with e | e
  · rw [e]
    exact lw_self _ h
  · exact lw_self _ e
/-- any list of words by their places (lw_in), good -/
theorem lw_good {ws : List Cond} (h : ∀ w ∈ ws, w ∈ lw_all) : GoodIn lw_all ws := fun w hw => lw_self w (h w hw)
/-- what a call of a method with handlers asks: vx_cwVW n hts (lw_VW ..), vx_cwSW n hts (lw_SW ..) -/
theorem lw_VW {own : String} {idx : Nat} {C : String} {y : MethodName} {b : ByteArray} {L : Nat} {r : Option FieldType} {hh : List (Nat × Nat × Nat × Nat)} (h1 : Cond.methodLink own idx y ∈ lw_all) (h2 : Cond.instanceMethod y ∈ lw_all) (h3 : Cond.selects C y y ∈ lw_all) (h4 : Cond.initialized C ∈ lw_all) (h5 : Cond.codeWith y b L r hh ∈ lw_all) : GoodIn lw_all (wsV own idx C y (wsW_ y b L r hh)) := by
  refine lw_app ?_ (lw_methW h5)
  intro w hw
  simp only [List.mem_cons, List.not_mem_nil, or_false] at hw
  rcases hw with e | e | e | e
  · rw [e]; exact h1
  · rw [e]; exact h2
  · rw [e]; exact h3
  · rw [e]; exact h4
theorem lw_SW {own : String} {idx : Nat} {y : MethodName} {b : ByteArray} {L : Nat} {r : Option FieldType} {hh : List (Nat × Nat × Nat × Nat)} (h1 : Cond.methodLink own idx y ∈ lw_all) (h2 : Cond.static y ∈ lw_all) (h3 : Cond.initialized y.cls ∈ lw_all) (h4 : Cond.codeWith y b L r hh ∈ lw_all) : GoodIn lw_all (va_wsS own idx y (wsW_ y b L r hh)) := by
  refine lw_app ?_ (lw_methW h4)
  intro w hw
  simp only [List.mem_cons, List.not_mem_nil, or_false] at hw
  rcases hw with e | e | e
  · rw [e]; exact h1
  · rw [e]; exact h2
  · rw [e]; exact h3
/-- a word by its place in its run of the tables -/
theorem lw_at {r : List Cond} (hr : ∀ w ∈ r, w ∈ lw_tbl) {w : Cond} (i : Nat) (h : r[i]? = some w) : w ∈ lw_tbl := hr w (List.mem_of_getElem? h)
theorem lw_g {w : Cond} (h : w ∈ lw_tbl) (g : goodWord w = true) : w ∈ lw_all := List.mem_filter.mpr ⟨h, g⟩
theorem lw_ms : ∀ w ∈ k2_sels lw_privs, w ∈ lw_tbl := fun w h => show w ∈ k2_sels lw_privs ++ tables_1 from List.mem_append_left _ h
theorem lw_m0 : ∀ w ∈ tables_1, w ∈ lw_tbl := fun w h => show w ∈ k2_sels lw_privs ++ tables_1 from List.mem_append_right (k2_sels lw_privs) h
theorem qs0 : (Cond.selects "SpongePairs" ⟨"SpongePairs", "put", "(II)V"⟩ ⟨"SpongePairs", "put", "(II)V"⟩) ∈ lw_all := lw_g (lw_at lw_ms 0 rfl) rfl
theorem qs1 : (Cond.selects "SpongePairs" ⟨"SpongePairs", "permute", "()V"⟩ ⟨"SpongePairs", "permute", "()V"⟩) ∈ lw_all := lw_g (lw_at lw_ms 1 rfl) rfl
theorem qs2 : (Cond.selects "SpongePairs" ⟨"SpongePairs", "mixColumns", "()V"⟩ ⟨"SpongePairs", "mixColumns", "()V"⟩) ∈ lw_all := lw_g (lw_at lw_ms 2 rfl) rfl
theorem qs3 : (Cond.selects "SpongePairs" ⟨"SpongePairs", "move", "()V"⟩ ⟨"SpongePairs", "move", "()V"⟩) ∈ lw_all := lw_g (lw_at lw_ms 3 rfl) rfl
theorem qs4 : (Cond.selects "SpongePairs" ⟨"SpongePairs", "mixRows", "()V"⟩ ⟨"SpongePairs", "mixRows", "()V"⟩) ∈ lw_all := lw_g (lw_at lw_ms 4 rfl) rfl
theorem qs5 : (Cond.selects "SpongePairs" ⟨"SpongePairs", "at", "(I)I"⟩ ⟨"SpongePairs", "at", "(I)I"⟩) ∈ lw_all := lw_g (lw_at lw_ms 5 rfl) rfl
theorem qs6 : (Cond.selects "SpongePairsModel" ⟨"SpongePairsModel", "put", "(II)V"⟩ ⟨"SpongePairsModel", "put", "(II)V"⟩) ∈ lw_all := lw_g (lw_at lw_ms 6 rfl) rfl
theorem qs7 : (Cond.selects "SpongePairsModel" ⟨"SpongePairsModel", "permute", "()V"⟩ ⟨"SpongePairsModel", "permute", "()V"⟩) ∈ lw_all := lw_g (lw_at lw_ms 7 rfl) rfl
theorem qs8 : (Cond.selects "SpongePairsModel" ⟨"SpongePairsModel", "mix", "()V"⟩ ⟨"SpongePairsModel", "mix", "()V"⟩) ∈ lw_all := lw_g (lw_at lw_ms 8 rfl) rfl
theorem qs9 : (Cond.selects "SpongePairsModel" ⟨"SpongePairsModel", "move", "()V"⟩ ⟨"SpongePairsModel", "move", "()V"⟩) ∈ lw_all := lw_g (lw_at lw_ms 9 rfl) rfl
theorem qs10 : (Cond.selects "SpongePairsModel" ⟨"SpongePairsModel", "join", "()V"⟩ ⟨"SpongePairsModel", "join", "()V"⟩) ∈ lw_all := lw_g (lw_at lw_ms 10 rfl) rfl
-- ===== end of PART A; then your names; then what follows =====
end
section
/-! SpongePairs -/
set_option maxRecDepth 100000
def RX0 : String := "SpongePairs"
def TX0 : u_T := fun k => match k with
  | 0 => ("SpongePairs", "lo", "[I", true)
  | 1 => ("SpongePairs", "hi", "[I", true)
  | 2 => ("SpongePairs", "rcLo", "[I", true)
  | 3 => ("SpongePairs", "rcHi", "[I", true)
  | 4 => ("SpongePairs", "rot", "[I", true)
  | 5 => ("SpongePairs", "tmpLo", "[I", true)
  | 6 => ("SpongePairs", "tmpHi", "[I", true)
  | 7 => ("SpongePairs", "ready", "Z", false)
  | 8 => ("SpongePairs", "rate", "I", false)
  | 9 => ("SpongePairs", "suffix", "I", false)
  | 10 => ("SpongePairs", "pos", "I", false)
  | 11 => ("SpongePairs", "phase", "I", false)
  | 12 => ("SpongePairs", "limit", "I", false)
  | 13 => ("SpongePairs", "given", "I", false)
  | _ => ("SpongePairs", "taken", "I", false)
def tyX0 : Nat → FieldType := fun k => match k with
  | 0 => .array .int
  | 1 => .array .int
  | 2 => .array .int
  | 3 => .array .int
  | 4 => .array .int
  | 5 => .array .int
  | 6 => .array .int
  | 7 => .boolean
  | 8 => .int
  | 9 => .int
  | 10 => .int
  | 11 => .int
  | 12 => .int
  | 13 => .int
  | _ => .int
abbrev wsX00 : List Cond := u_ws RX0 TX0 15
set_option maxRecDepth 100000 in
theorem nmX0 : ∀ a, a < 15 → ∀ b, b < 15 → a ≠ b → (TX0 a).2.1 ≠ (TX0 b).2.1 := by decide +kernel
set_option maxRecDepth 100000 in
theorem tyX0_ok : ∀ k, k < 15 → parseFieldDescriptor (TX0 k).2.2.1 = some (tyX0 k) := by decide +kernel
abbrev cX0_init : ByteArray := prog_1_method_1_code
def yX0_init : MethodName := ⟨RX0, "<init>", "()V"⟩
theorem dX0_init_0 : decode cX0_init 0 = .ok (.aload_n 0, 1) := by decide +kernel
theorem dX0_init_1 : decode cX0_init 1 = .ok (.invokespecial 1, 3) := by decide +kernel
theorem dX0_init_4 : decode cX0_init 4 = .ok (.aload_n 0, 1) := by decide +kernel
theorem dX0_init_5 : decode cX0_init 5 = .ok (.bipush 25, 2) := by decide +kernel
theorem dX0_init_7 : decode cX0_init 7 = .ok (.newarray .int, 2) := by decide +kernel
theorem dX0_init_9 : decode cX0_init 9 = .ok (.putfield 7, 3) := by decide +kernel
theorem dX0_init_12 : decode cX0_init 12 = .ok (.aload_n 0, 1) := by decide +kernel
theorem dX0_init_13 : decode cX0_init 13 = .ok (.bipush 25, 2) := by decide +kernel
theorem dX0_init_15 : decode cX0_init 15 = .ok (.newarray .int, 2) := by decide +kernel
theorem dX0_init_17 : decode cX0_init 17 = .ok (.putfield 13, 3) := by decide +kernel
theorem dX0_init_20 : decode cX0_init 20 = .ok (.aload_n 0, 1) := by decide +kernel
theorem dX0_init_21 : decode cX0_init 21 = .ok (.bipush 24, 2) := by decide +kernel
theorem dX0_init_23 : decode cX0_init 23 = .ok (.newarray .int, 2) := by decide +kernel
theorem dX0_init_25 : decode cX0_init 25 = .ok (.putfield 16, 3) := by decide +kernel
theorem dX0_init_28 : decode cX0_init 28 = .ok (.aload_n 0, 1) := by decide +kernel
theorem dX0_init_29 : decode cX0_init 29 = .ok (.bipush 24, 2) := by decide +kernel
theorem dX0_init_31 : decode cX0_init 31 = .ok (.newarray .int, 2) := by decide +kernel
theorem dX0_init_33 : decode cX0_init 33 = .ok (.putfield 19, 3) := by decide +kernel
theorem dX0_init_36 : decode cX0_init 36 = .ok (.aload_n 0, 1) := by decide +kernel
theorem dX0_init_37 : decode cX0_init 37 = .ok (.bipush 25, 2) := by decide +kernel
theorem dX0_init_39 : decode cX0_init 39 = .ok (.newarray .int, 2) := by decide +kernel
theorem dX0_init_41 : decode cX0_init 41 = .ok (.putfield 22, 3) := by decide +kernel
theorem dX0_init_44 : decode cX0_init 44 = .ok (.aload_n 0, 1) := by decide +kernel
theorem dX0_init_45 : decode cX0_init 45 = .ok (.bipush 25, 2) := by decide +kernel
theorem dX0_init_47 : decode cX0_init 47 = .ok (.newarray .int, 2) := by decide +kernel
theorem dX0_init_49 : decode cX0_init 49 = .ok (.putfield 25, 3) := by decide +kernel
theorem dX0_init_52 : decode cX0_init 52 = .ok (.aload_n 0, 1) := by decide +kernel
theorem dX0_init_53 : decode cX0_init 53 = .ok (.bipush 25, 2) := by decide +kernel
theorem dX0_init_55 : decode cX0_init 55 = .ok (.newarray .int, 2) := by decide +kernel
theorem dX0_init_57 : decode cX0_init 57 = .ok (.putfield 28, 3) := by decide +kernel
theorem dX0_init_60 : decode cX0_init 60 = .ok (.return_, 1) := by decide +kernel
abbrev cX0_init_2 : ByteArray := prog_1_method_2_code
def yX0_init_2 : MethodName := ⟨RX0, "init", "()V"⟩
theorem dX0_init_2_0 : decode cX0_init_2 0 = .ok (.aload_n 0, 1) := by decide +kernel
theorem dX0_init_2_1 : decode cX0_init_2 1 = .ok (.getfield 31, 3) := by decide +kernel
theorem dX0_init_2_4 : decode cX0_init_2 4 = .ok (.ifCond .eq 4, 3) := by decide +kernel
theorem dX0_init_2_7 : decode cX0_init_2 7 = .ok (.return_, 1) := by decide +kernel
theorem dX0_init_2_8 : decode cX0_init_2 8 = .ok (.iconst 1, 1) := by decide +kernel
theorem dX0_init_2_9 : decode cX0_init_2 9 = .ok (.istore_n 1, 1) := by decide +kernel
theorem dX0_init_2_10 : decode cX0_init_2 10 = .ok (.iconst 0, 1) := by decide +kernel
theorem dX0_init_2_11 : decode cX0_init_2 11 = .ok (.istore_n 2, 1) := by decide +kernel
theorem dX0_init_2_12 : decode cX0_init_2 12 = .ok (.iload_n 2, 1) := by decide +kernel
theorem dX0_init_2_13 : decode cX0_init_2 13 = .ok (.bipush 24, 2) := by decide +kernel
theorem dX0_init_2_15 : decode cX0_init_2 15 = .ok (.if_icmp .ge 93, 3) := by decide +kernel
theorem dX0_init_2_18 : decode cX0_init_2 18 = .ok (.iconst 0, 1) := by decide +kernel
theorem dX0_init_2_19 : decode cX0_init_2 19 = .ok (.istore_n 3, 1) := by decide +kernel
theorem dX0_init_2_20 : decode cX0_init_2 20 = .ok (.iload_n 3, 1) := by decide +kernel
theorem dX0_init_2_21 : decode cX0_init_2 21 = .ok (.bipush 7, 2) := by decide +kernel
theorem dX0_init_2_23 : decode cX0_init_2 23 = .ok (.if_icmp .ge 79, 3) := by decide +kernel
theorem dX0_init_2_26 : decode cX0_init_2 26 = .ok (.iconst 1, 1) := by decide +kernel
theorem dX0_init_2_27 : decode cX0_init_2 27 = .ok (.iload_n 3, 1) := by decide +kernel
theorem dX0_init_2_28 : decode cX0_init_2 28 = .ok (.ishl, 1) := by decide +kernel
theorem dX0_init_2_29 : decode cX0_init_2 29 = .ok (.iconst 1, 1) := by decide +kernel
theorem dX0_init_2_30 : decode cX0_init_2 30 = .ok (.isub, 1) := by decide +kernel
theorem dX0_init_2_31 : decode cX0_init_2 31 = .ok (.istore 4, 2) := by decide +kernel
theorem dX0_init_2_33 : decode cX0_init_2 33 = .ok (.iload_n 1, 1) := by decide +kernel
theorem dX0_init_2_34 : decode cX0_init_2 34 = .ok (.iconst 1, 1) := by decide +kernel
theorem dX0_init_2_35 : decode cX0_init_2 35 = .ok (.iand, 1) := by decide +kernel
theorem dX0_init_2_36 : decode cX0_init_2 36 = .ok (.iconst 1, 1) := by decide +kernel
theorem dX0_init_2_37 : decode cX0_init_2 37 = .ok (.if_icmp .ne 42, 3) := by decide +kernel
theorem dX0_init_2_40 : decode cX0_init_2 40 = .ok (.iload 4, 2) := by decide +kernel
theorem dX0_init_2_42 : decode cX0_init_2 42 = .ok (.bipush 32, 2) := by decide +kernel
theorem dX0_init_2_44 : decode cX0_init_2 44 = .ok (.if_icmp .ge 19, 3) := by decide +kernel
theorem dX0_init_2_47 : decode cX0_init_2 47 = .ok (.aload_n 0, 1) := by decide +kernel
theorem dX0_init_2_48 : decode cX0_init_2 48 = .ok (.getfield 16, 3) := by decide +kernel
theorem dX0_init_2_51 : decode cX0_init_2 51 = .ok (.iload_n 2, 1) := by decide +kernel
theorem dX0_init_2_52 : decode cX0_init_2 52 = .ok (.dup2, 1) := by decide +kernel
theorem dX0_init_2_53 : decode cX0_init_2 53 = .ok (.iaload, 1) := by decide +kernel
theorem dX0_init_2_54 : decode cX0_init_2 54 = .ok (.iconst 1, 1) := by decide +kernel
theorem dX0_init_2_55 : decode cX0_init_2 55 = .ok (.iload 4, 2) := by decide +kernel
theorem dX0_init_2_57 : decode cX0_init_2 57 = .ok (.ishl, 1) := by decide +kernel
theorem dX0_init_2_58 : decode cX0_init_2 58 = .ok (.ior, 1) := by decide +kernel
theorem dX0_init_2_59 : decode cX0_init_2 59 = .ok (.iastore, 1) := by decide +kernel
theorem dX0_init_2_60 : decode cX0_init_2 60 = .ok (.goto 19, 3) := by decide +kernel
theorem dX0_init_2_63 : decode cX0_init_2 63 = .ok (.aload_n 0, 1) := by decide +kernel
theorem dX0_init_2_64 : decode cX0_init_2 64 = .ok (.getfield 19, 3) := by decide +kernel
theorem dX0_init_2_67 : decode cX0_init_2 67 = .ok (.iload_n 2, 1) := by decide +kernel
theorem dX0_init_2_68 : decode cX0_init_2 68 = .ok (.dup2, 1) := by decide +kernel
theorem dX0_init_2_69 : decode cX0_init_2 69 = .ok (.iaload, 1) := by decide +kernel
theorem dX0_init_2_70 : decode cX0_init_2 70 = .ok (.iconst 1, 1) := by decide +kernel
theorem dX0_init_2_71 : decode cX0_init_2 71 = .ok (.iload 4, 2) := by decide +kernel
theorem dX0_init_2_73 : decode cX0_init_2 73 = .ok (.bipush 32, 2) := by decide +kernel
theorem dX0_init_2_75 : decode cX0_init_2 75 = .ok (.isub, 1) := by decide +kernel
theorem dX0_init_2_76 : decode cX0_init_2 76 = .ok (.ishl, 1) := by decide +kernel
theorem dX0_init_2_77 : decode cX0_init_2 77 = .ok (.ior, 1) := by decide +kernel
theorem dX0_init_2_78 : decode cX0_init_2 78 = .ok (.iastore, 1) := by decide +kernel
theorem dX0_init_2_79 : decode cX0_init_2 79 = .ok (.iload_n 1, 1) := by decide +kernel
theorem dX0_init_2_80 : decode cX0_init_2 80 = .ok (.iconst 1, 1) := by decide +kernel
theorem dX0_init_2_81 : decode cX0_init_2 81 = .ok (.ishl, 1) := by decide +kernel
theorem dX0_init_2_82 : decode cX0_init_2 82 = .ok (.istore_n 1, 1) := by decide +kernel
theorem dX0_init_2_83 : decode cX0_init_2 83 = .ok (.iload_n 1, 1) := by decide +kernel
theorem dX0_init_2_84 : decode cX0_init_2 84 = .ok (.sipush 255, 3) := by decide +kernel
theorem dX0_init_2_87 : decode cX0_init_2 87 = .ok (.if_icmp .le 9, 3) := by decide +kernel
theorem dX0_init_2_90 : decode cX0_init_2 90 = .ok (.iload_n 1, 1) := by decide +kernel
theorem dX0_init_2_91 : decode cX0_init_2 91 = .ok (.sipush 369, 3) := by decide +kernel
theorem dX0_init_2_94 : decode cX0_init_2 94 = .ok (.ixor, 1) := by decide +kernel
theorem dX0_init_2_95 : decode cX0_init_2 95 = .ok (.istore_n 1, 1) := by decide +kernel
theorem dX0_init_2_96 : decode cX0_init_2 96 = .ok (.iinc 3 1, 3) := by decide +kernel
theorem dX0_init_2_99 : decode cX0_init_2 99 = .ok (.goto (-79), 3) := by decide +kernel
theorem dX0_init_2_102 : decode cX0_init_2 102 = .ok (.iinc 2 1, 3) := by decide +kernel
theorem dX0_init_2_105 : decode cX0_init_2 105 = .ok (.goto (-93), 3) := by decide +kernel
theorem dX0_init_2_108 : decode cX0_init_2 108 = .ok (.iconst 1, 1) := by decide +kernel
theorem dX0_init_2_109 : decode cX0_init_2 109 = .ok (.istore_n 2, 1) := by decide +kernel
theorem dX0_init_2_110 : decode cX0_init_2 110 = .ok (.iconst 0, 1) := by decide +kernel
theorem dX0_init_2_111 : decode cX0_init_2 111 = .ok (.istore_n 3, 1) := by decide +kernel
theorem dX0_init_2_112 : decode cX0_init_2 112 = .ok (.iconst 0, 1) := by decide +kernel
theorem dX0_init_2_113 : decode cX0_init_2 113 = .ok (.istore 4, 2) := by decide +kernel
theorem dX0_init_2_115 : decode cX0_init_2 115 = .ok (.iload 4, 2) := by decide +kernel
theorem dX0_init_2_117 : decode cX0_init_2 117 = .ok (.bipush 24, 2) := by decide +kernel
theorem dX0_init_2_119 : decode cX0_init_2 119 = .ok (.if_icmp .ge 49, 3) := by decide +kernel
theorem dX0_init_2_122 : decode cX0_init_2 122 = .ok (.aload_n 0, 1) := by decide +kernel
theorem dX0_init_2_123 : decode cX0_init_2 123 = .ok (.getfield 22, 3) := by decide +kernel
theorem dX0_init_2_126 : decode cX0_init_2 126 = .ok (.iload_n 2, 1) := by decide +kernel
theorem dX0_init_2_127 : decode cX0_init_2 127 = .ok (.iconst 5, 1) := by decide +kernel
theorem dX0_init_2_128 : decode cX0_init_2 128 = .ok (.iload_n 3, 1) := by decide +kernel
theorem dX0_init_2_129 : decode cX0_init_2 129 = .ok (.imul, 1) := by decide +kernel
theorem dX0_init_2_130 : decode cX0_init_2 130 = .ok (.iadd, 1) := by decide +kernel
theorem dX0_init_2_131 : decode cX0_init_2 131 = .ok (.iload 4, 2) := by decide +kernel
theorem dX0_init_2_133 : decode cX0_init_2 133 = .ok (.iconst 1, 1) := by decide +kernel
theorem dX0_init_2_134 : decode cX0_init_2 134 = .ok (.iadd, 1) := by decide +kernel
theorem dX0_init_2_135 : decode cX0_init_2 135 = .ok (.iload 4, 2) := by decide +kernel
theorem dX0_init_2_137 : decode cX0_init_2 137 = .ok (.iconst 2, 1) := by decide +kernel
theorem dX0_init_2_138 : decode cX0_init_2 138 = .ok (.iadd, 1) := by decide +kernel
theorem dX0_init_2_139 : decode cX0_init_2 139 = .ok (.imul, 1) := by decide +kernel
theorem dX0_init_2_140 : decode cX0_init_2 140 = .ok (.iconst 2, 1) := by decide +kernel
theorem dX0_init_2_141 : decode cX0_init_2 141 = .ok (.idiv, 1) := by decide +kernel
theorem dX0_init_2_142 : decode cX0_init_2 142 = .ok (.bipush 64, 2) := by decide +kernel
theorem dX0_init_2_144 : decode cX0_init_2 144 = .ok (.irem, 1) := by decide +kernel
theorem dX0_init_2_145 : decode cX0_init_2 145 = .ok (.iastore, 1) := by decide +kernel
theorem dX0_init_2_146 : decode cX0_init_2 146 = .ok (.iconst 2, 1) := by decide +kernel
theorem dX0_init_2_147 : decode cX0_init_2 147 = .ok (.iload_n 2, 1) := by decide +kernel
theorem dX0_init_2_148 : decode cX0_init_2 148 = .ok (.imul, 1) := by decide +kernel
theorem dX0_init_2_149 : decode cX0_init_2 149 = .ok (.iconst 3, 1) := by decide +kernel
theorem dX0_init_2_150 : decode cX0_init_2 150 = .ok (.iload_n 3, 1) := by decide +kernel
theorem dX0_init_2_151 : decode cX0_init_2 151 = .ok (.imul, 1) := by decide +kernel
theorem dX0_init_2_152 : decode cX0_init_2 152 = .ok (.iadd, 1) := by decide +kernel
theorem dX0_init_2_153 : decode cX0_init_2 153 = .ok (.iconst 5, 1) := by decide +kernel
theorem dX0_init_2_154 : decode cX0_init_2 154 = .ok (.irem, 1) := by decide +kernel
theorem dX0_init_2_155 : decode cX0_init_2 155 = .ok (.istore 5, 2) := by decide +kernel
theorem dX0_init_2_157 : decode cX0_init_2 157 = .ok (.iload_n 3, 1) := by decide +kernel
theorem dX0_init_2_158 : decode cX0_init_2 158 = .ok (.istore_n 2, 1) := by decide +kernel
theorem dX0_init_2_159 : decode cX0_init_2 159 = .ok (.iload 5, 2) := by decide +kernel
theorem dX0_init_2_161 : decode cX0_init_2 161 = .ok (.istore_n 3, 1) := by decide +kernel
theorem dX0_init_2_162 : decode cX0_init_2 162 = .ok (.iinc 4 1, 3) := by decide +kernel
theorem dX0_init_2_165 : decode cX0_init_2 165 = .ok (.goto (-50), 3) := by decide +kernel
theorem dX0_init_2_168 : decode cX0_init_2 168 = .ok (.aload_n 0, 1) := by decide +kernel
theorem dX0_init_2_169 : decode cX0_init_2 169 = .ok (.iconst 1, 1) := by decide +kernel
theorem dX0_init_2_170 : decode cX0_init_2 170 = .ok (.putfield 31, 3) := by decide +kernel
theorem dX0_init_2_173 : decode cX0_init_2 173 = .ok (.return_, 1) := by decide +kernel
abbrev cX0_begin : ByteArray := prog_1_method_10_code
def yX0_begin : MethodName := ⟨RX0, "begin", "(I)Z"⟩
theorem dX0_begin_0 : decode cX0_begin 0 = .ok (.aload_n 0, 1) := by decide +kernel
theorem dX0_begin_1 : decode cX0_begin 1 = .ok (.getfield 31, 3) := by decide +kernel
theorem dX0_begin_4 : decode cX0_begin 4 = .ok (.ifCond .eq 12, 3) := by decide +kernel
theorem dX0_begin_7 : decode cX0_begin 7 = .ok (.iload_n 1, 1) := by decide +kernel
theorem dX0_begin_8 : decode cX0_begin 8 = .ok (.ifCond .lt 8, 3) := by decide +kernel
theorem dX0_begin_11 : decode cX0_begin 11 = .ok (.iload_n 1, 1) := by decide +kernel
theorem dX0_begin_12 : decode cX0_begin 12 = .ok (.iconst 1, 1) := by decide +kernel
theorem dX0_begin_13 : decode cX0_begin 13 = .ok (.if_icmp .le 5, 3) := by decide +kernel
theorem dX0_begin_16 : decode cX0_begin 16 = .ok (.iconst 0, 1) := by decide +kernel
theorem dX0_begin_17 : decode cX0_begin 17 = .ok (.ireturn, 1) := by decide +kernel
theorem dX0_begin_18 : decode cX0_begin 18 = .ok (.iconst 0, 1) := by decide +kernel
theorem dX0_begin_19 : decode cX0_begin 19 = .ok (.istore_n 2, 1) := by decide +kernel
theorem dX0_begin_20 : decode cX0_begin 20 = .ok (.iload_n 2, 1) := by decide +kernel
theorem dX0_begin_21 : decode cX0_begin 21 = .ok (.bipush 25, 2) := by decide +kernel
theorem dX0_begin_23 : decode cX0_begin 23 = .ok (.if_icmp .ge 23, 3) := by decide +kernel
theorem dX0_begin_26 : decode cX0_begin 26 = .ok (.aload_n 0, 1) := by decide +kernel
theorem dX0_begin_27 : decode cX0_begin 27 = .ok (.getfield 7, 3) := by decide +kernel
theorem dX0_begin_30 : decode cX0_begin 30 = .ok (.iload_n 2, 1) := by decide +kernel
theorem dX0_begin_31 : decode cX0_begin 31 = .ok (.iconst 0, 1) := by decide +kernel
theorem dX0_begin_32 : decode cX0_begin 32 = .ok (.iastore, 1) := by decide +kernel
theorem dX0_begin_33 : decode cX0_begin 33 = .ok (.aload_n 0, 1) := by decide +kernel
theorem dX0_begin_34 : decode cX0_begin 34 = .ok (.getfield 13, 3) := by decide +kernel
theorem dX0_begin_37 : decode cX0_begin 37 = .ok (.iload_n 2, 1) := by decide +kernel
theorem dX0_begin_38 : decode cX0_begin 38 = .ok (.iconst 0, 1) := by decide +kernel
theorem dX0_begin_39 : decode cX0_begin 39 = .ok (.iastore, 1) := by decide +kernel
theorem dX0_begin_40 : decode cX0_begin 40 = .ok (.iinc 2 1, 3) := by decide +kernel
theorem dX0_begin_43 : decode cX0_begin 43 = .ok (.goto (-23), 3) := by decide +kernel
theorem dX0_begin_46 : decode cX0_begin 46 = .ok (.aload_n 0, 1) := by decide +kernel
theorem dX0_begin_47 : decode cX0_begin 47 = .ok (.iload_n 1, 1) := by decide +kernel
theorem dX0_begin_48 : decode cX0_begin 48 = .ok (.ifCond .ne 9, 3) := by decide +kernel
theorem dX0_begin_51 : decode cX0_begin 51 = .ok (.sipush 136, 3) := by decide +kernel
theorem dX0_begin_54 : decode cX0_begin 54 = .ok (.goto 6, 3) := by decide +kernel
theorem dX0_begin_57 : decode cX0_begin 57 = .ok (.sipush 168, 3) := by decide +kernel
theorem dX0_begin_60 : decode cX0_begin 60 = .ok (.putfield 48, 3) := by decide +kernel
theorem dX0_begin_63 : decode cX0_begin 63 = .ok (.aload_n 0, 1) := by decide +kernel
theorem dX0_begin_64 : decode cX0_begin 64 = .ok (.iload_n 1, 1) := by decide +kernel
theorem dX0_begin_65 : decode cX0_begin 65 = .ok (.ifCond .ne 8, 3) := by decide +kernel
theorem dX0_begin_68 : decode cX0_begin 68 = .ok (.bipush 6, 2) := by decide +kernel
theorem dX0_begin_70 : decode cX0_begin 70 = .ok (.goto 5, 3) := by decide +kernel
theorem dX0_begin_73 : decode cX0_begin 73 = .ok (.bipush 31, 2) := by decide +kernel
theorem dX0_begin_75 : decode cX0_begin 75 = .ok (.putfield 52, 3) := by decide +kernel
theorem dX0_begin_78 : decode cX0_begin 78 = .ok (.aload_n 0, 1) := by decide +kernel
theorem dX0_begin_79 : decode cX0_begin 79 = .ok (.iload_n 1, 1) := by decide +kernel
theorem dX0_begin_80 : decode cX0_begin 80 = .ok (.ifCond .ne 8, 3) := by decide +kernel
theorem dX0_begin_83 : decode cX0_begin 83 = .ok (.bipush 32, 2) := by decide +kernel
theorem dX0_begin_85 : decode cX0_begin 85 = .ok (.goto 4, 3) := by decide +kernel
theorem dX0_begin_88 : decode cX0_begin 88 = .ok (.iconst (-1), 1) := by decide +kernel
theorem dX0_begin_89 : decode cX0_begin 89 = .ok (.putfield 55, 3) := by decide +kernel
theorem dX0_begin_92 : decode cX0_begin 92 = .ok (.aload_n 0, 1) := by decide +kernel
theorem dX0_begin_93 : decode cX0_begin 93 = .ok (.iconst 0, 1) := by decide +kernel
theorem dX0_begin_94 : decode cX0_begin 94 = .ok (.putfield 58, 3) := by decide +kernel
theorem dX0_begin_97 : decode cX0_begin 97 = .ok (.aload_n 0, 1) := by decide +kernel
theorem dX0_begin_98 : decode cX0_begin 98 = .ok (.iconst 0, 1) := by decide +kernel
theorem dX0_begin_99 : decode cX0_begin 99 = .ok (.putfield 61, 3) := by decide +kernel
theorem dX0_begin_102 : decode cX0_begin 102 = .ok (.aload_n 0, 1) := by decide +kernel
theorem dX0_begin_103 : decode cX0_begin 103 = .ok (.iconst 0, 1) := by decide +kernel
theorem dX0_begin_104 : decode cX0_begin 104 = .ok (.putfield 64, 3) := by decide +kernel
theorem dX0_begin_107 : decode cX0_begin 107 = .ok (.aload_n 0, 1) := by decide +kernel
theorem dX0_begin_108 : decode cX0_begin 108 = .ok (.iconst 1, 1) := by decide +kernel
theorem dX0_begin_109 : decode cX0_begin 109 = .ok (.putfield 67, 3) := by decide +kernel
theorem dX0_begin_112 : decode cX0_begin 112 = .ok (.iconst 1, 1) := by decide +kernel
theorem dX0_begin_113 : decode cX0_begin 113 = .ok (.ireturn, 1) := by decide +kernel
abbrev cX0_absorb : ByteArray := prog_1_method_11_code
def yX0_absorb : MethodName := ⟨RX0, "absorb", "(I)Z"⟩
theorem dX0_absorb_0 : decode cX0_absorb 0 = .ok (.aload_n 0, 1) := by decide +kernel
theorem dX0_absorb_1 : decode cX0_absorb 1 = .ok (.getfield 67, 3) := by decide +kernel
theorem dX0_absorb_4 : decode cX0_absorb 4 = .ok (.iconst 1, 1) := by decide +kernel
theorem dX0_absorb_5 : decode cX0_absorb 5 = .ok (.if_icmp .ne 14, 3) := by decide +kernel
theorem dX0_absorb_8 : decode cX0_absorb 8 = .ok (.iload_n 1, 1) := by decide +kernel
theorem dX0_absorb_9 : decode cX0_absorb 9 = .ok (.ifCond .lt 10, 3) := by decide +kernel
theorem dX0_absorb_12 : decode cX0_absorb 12 = .ok (.iload_n 1, 1) := by decide +kernel
theorem dX0_absorb_13 : decode cX0_absorb 13 = .ok (.sipush 255, 3) := by decide +kernel
theorem dX0_absorb_16 : decode cX0_absorb 16 = .ok (.if_icmp .le 5, 3) := by decide +kernel
theorem dX0_absorb_19 : decode cX0_absorb 19 = .ok (.iconst 0, 1) := by decide +kernel
theorem dX0_absorb_20 : decode cX0_absorb 20 = .ok (.ireturn, 1) := by decide +kernel
theorem dX0_absorb_21 : decode cX0_absorb 21 = .ok (.aload_n 0, 1) := by decide +kernel
theorem dX0_absorb_22 : decode cX0_absorb 22 = .ok (.aload_n 0, 1) := by decide +kernel
theorem dX0_absorb_23 : decode cX0_absorb 23 = .ok (.getfield 58, 3) := by decide +kernel
theorem dX0_absorb_26 : decode cX0_absorb 26 = .ok (.iload_n 1, 1) := by decide +kernel
theorem dX0_absorb_27 : decode cX0_absorb 27 = .ok (.invokevirtual 70, 3) := by decide +kernel
theorem dX0_absorb_30 : decode cX0_absorb 30 = .ok (.aload_n 0, 1) := by decide +kernel
theorem dX0_absorb_31 : decode cX0_absorb 31 = .ok (.dup, 1) := by decide +kernel
theorem dX0_absorb_32 : decode cX0_absorb 32 = .ok (.getfield 58, 3) := by decide +kernel
theorem dX0_absorb_35 : decode cX0_absorb 35 = .ok (.iconst 1, 1) := by decide +kernel
theorem dX0_absorb_36 : decode cX0_absorb 36 = .ok (.iadd, 1) := by decide +kernel
theorem dX0_absorb_37 : decode cX0_absorb 37 = .ok (.putfield 58, 3) := by decide +kernel
theorem dX0_absorb_40 : decode cX0_absorb 40 = .ok (.aload_n 0, 1) := by decide +kernel
theorem dX0_absorb_41 : decode cX0_absorb 41 = .ok (.dup, 1) := by decide +kernel
theorem dX0_absorb_42 : decode cX0_absorb 42 = .ok (.getfield 64, 3) := by decide +kernel
theorem dX0_absorb_45 : decode cX0_absorb 45 = .ok (.iconst 1, 1) := by decide +kernel
theorem dX0_absorb_46 : decode cX0_absorb 46 = .ok (.iadd, 1) := by decide +kernel
theorem dX0_absorb_47 : decode cX0_absorb 47 = .ok (.putfield 64, 3) := by decide +kernel
theorem dX0_absorb_50 : decode cX0_absorb 50 = .ok (.aload_n 0, 1) := by decide +kernel
theorem dX0_absorb_51 : decode cX0_absorb 51 = .ok (.getfield 58, 3) := by decide +kernel
theorem dX0_absorb_54 : decode cX0_absorb 54 = .ok (.aload_n 0, 1) := by decide +kernel
theorem dX0_absorb_55 : decode cX0_absorb 55 = .ok (.getfield 48, 3) := by decide +kernel
theorem dX0_absorb_58 : decode cX0_absorb 58 = .ok (.if_icmp .ne 12, 3) := by decide +kernel
theorem dX0_absorb_61 : decode cX0_absorb 61 = .ok (.aload_n 0, 1) := by decide +kernel
theorem dX0_absorb_62 : decode cX0_absorb 62 = .ok (.invokevirtual 74, 3) := by decide +kernel
theorem dX0_absorb_65 : decode cX0_absorb 65 = .ok (.aload_n 0, 1) := by decide +kernel
theorem dX0_absorb_66 : decode cX0_absorb 66 = .ok (.iconst 0, 1) := by decide +kernel
theorem dX0_absorb_67 : decode cX0_absorb 67 = .ok (.putfield 58, 3) := by decide +kernel
theorem dX0_absorb_70 : decode cX0_absorb 70 = .ok (.iconst 1, 1) := by decide +kernel
theorem dX0_absorb_71 : decode cX0_absorb 71 = .ok (.ireturn, 1) := by decide +kernel
abbrev cX0_put : ByteArray := prog_1_method_8_code
def yX0_put : MethodName := ⟨RX0, "put", "(II)V"⟩
theorem dX0_put_0 : decode cX0_put 0 = .ok (.iload_n 1, 1) := by decide +kernel
theorem dX0_put_1 : decode cX0_put 1 = .ok (.bipush 8, 2) := by decide +kernel
theorem dX0_put_3 : decode cX0_put 3 = .ok (.idiv, 1) := by decide +kernel
theorem dX0_put_4 : decode cX0_put 4 = .ok (.istore_n 3, 1) := by decide +kernel
theorem dX0_put_5 : decode cX0_put 5 = .ok (.iload_n 1, 1) := by decide +kernel
theorem dX0_put_6 : decode cX0_put 6 = .ok (.bipush 8, 2) := by decide +kernel
theorem dX0_put_8 : decode cX0_put 8 = .ok (.irem, 1) := by decide +kernel
theorem dX0_put_9 : decode cX0_put 9 = .ok (.iconst 4, 1) := by decide +kernel
theorem dX0_put_10 : decode cX0_put 10 = .ok (.if_icmp .ge 23, 3) := by decide +kernel
theorem dX0_put_13 : decode cX0_put 13 = .ok (.aload_n 0, 1) := by decide +kernel
theorem dX0_put_14 : decode cX0_put 14 = .ok (.getfield 7, 3) := by decide +kernel
theorem dX0_put_17 : decode cX0_put 17 = .ok (.iload_n 3, 1) := by decide +kernel
theorem dX0_put_18 : decode cX0_put 18 = .ok (.dup2, 1) := by decide +kernel
theorem dX0_put_19 : decode cX0_put 19 = .ok (.iaload, 1) := by decide +kernel
theorem dX0_put_20 : decode cX0_put 20 = .ok (.iload_n 2, 1) := by decide +kernel
theorem dX0_put_21 : decode cX0_put 21 = .ok (.bipush 8, 2) := by decide +kernel
theorem dX0_put_23 : decode cX0_put 23 = .ok (.iload_n 1, 1) := by decide +kernel
theorem dX0_put_24 : decode cX0_put 24 = .ok (.iconst 4, 1) := by decide +kernel
theorem dX0_put_25 : decode cX0_put 25 = .ok (.irem, 1) := by decide +kernel
theorem dX0_put_26 : decode cX0_put 26 = .ok (.imul, 1) := by decide +kernel
theorem dX0_put_27 : decode cX0_put 27 = .ok (.ishl, 1) := by decide +kernel
theorem dX0_put_28 : decode cX0_put 28 = .ok (.ixor, 1) := by decide +kernel
theorem dX0_put_29 : decode cX0_put 29 = .ok (.iastore, 1) := by decide +kernel
theorem dX0_put_30 : decode cX0_put 30 = .ok (.goto 20, 3) := by decide +kernel
theorem dX0_put_33 : decode cX0_put 33 = .ok (.aload_n 0, 1) := by decide +kernel
theorem dX0_put_34 : decode cX0_put 34 = .ok (.getfield 13, 3) := by decide +kernel
theorem dX0_put_37 : decode cX0_put 37 = .ok (.iload_n 3, 1) := by decide +kernel
theorem dX0_put_38 : decode cX0_put 38 = .ok (.dup2, 1) := by decide +kernel
theorem dX0_put_39 : decode cX0_put 39 = .ok (.iaload, 1) := by decide +kernel
theorem dX0_put_40 : decode cX0_put 40 = .ok (.iload_n 2, 1) := by decide +kernel
theorem dX0_put_41 : decode cX0_put 41 = .ok (.bipush 8, 2) := by decide +kernel
theorem dX0_put_43 : decode cX0_put 43 = .ok (.iload_n 1, 1) := by decide +kernel
theorem dX0_put_44 : decode cX0_put 44 = .ok (.iconst 4, 1) := by decide +kernel
theorem dX0_put_45 : decode cX0_put 45 = .ok (.irem, 1) := by decide +kernel
theorem dX0_put_46 : decode cX0_put 46 = .ok (.imul, 1) := by decide +kernel
theorem dX0_put_47 : decode cX0_put 47 = .ok (.ishl, 1) := by decide +kernel
theorem dX0_put_48 : decode cX0_put 48 = .ok (.ixor, 1) := by decide +kernel
theorem dX0_put_49 : decode cX0_put 49 = .ok (.iastore, 1) := by decide +kernel
theorem dX0_put_50 : decode cX0_put 50 = .ok (.return_, 1) := by decide +kernel
abbrev cX0_permute : ByteArray := prog_1_method_7_code
def yX0_permute : MethodName := ⟨RX0, "permute", "()V"⟩
theorem dX0_permute_0 : decode cX0_permute 0 = .ok (.iconst 0, 1) := by decide +kernel
theorem dX0_permute_1 : decode cX0_permute 1 = .ok (.istore_n 1, 1) := by decide +kernel
theorem dX0_permute_2 : decode cX0_permute 2 = .ok (.iload_n 1, 1) := by decide +kernel
theorem dX0_permute_3 : decode cX0_permute 3 = .ok (.bipush 24, 2) := by decide +kernel
theorem dX0_permute_5 : decode cX0_permute 5 = .ok (.if_icmp .ge 51, 3) := by decide +kernel
theorem dX0_permute_8 : decode cX0_permute 8 = .ok (.aload_n 0, 1) := by decide +kernel
theorem dX0_permute_9 : decode cX0_permute 9 = .ok (.invokevirtual 39, 3) := by decide +kernel
theorem dX0_permute_12 : decode cX0_permute 12 = .ok (.aload_n 0, 1) := by decide +kernel
theorem dX0_permute_13 : decode cX0_permute 13 = .ok (.invokevirtual 42, 3) := by decide +kernel
theorem dX0_permute_16 : decode cX0_permute 16 = .ok (.aload_n 0, 1) := by decide +kernel
theorem dX0_permute_17 : decode cX0_permute 17 = .ok (.invokevirtual 45, 3) := by decide +kernel
theorem dX0_permute_20 : decode cX0_permute 20 = .ok (.aload_n 0, 1) := by decide +kernel
theorem dX0_permute_21 : decode cX0_permute 21 = .ok (.getfield 7, 3) := by decide +kernel
theorem dX0_permute_24 : decode cX0_permute 24 = .ok (.iconst 0, 1) := by decide +kernel
theorem dX0_permute_25 : decode cX0_permute 25 = .ok (.dup2, 1) := by decide +kernel
theorem dX0_permute_26 : decode cX0_permute 26 = .ok (.iaload, 1) := by decide +kernel
theorem dX0_permute_27 : decode cX0_permute 27 = .ok (.aload_n 0, 1) := by decide +kernel
theorem dX0_permute_28 : decode cX0_permute 28 = .ok (.getfield 16, 3) := by decide +kernel
theorem dX0_permute_31 : decode cX0_permute 31 = .ok (.iload_n 1, 1) := by decide +kernel
theorem dX0_permute_32 : decode cX0_permute 32 = .ok (.iaload, 1) := by decide +kernel
theorem dX0_permute_33 : decode cX0_permute 33 = .ok (.ixor, 1) := by decide +kernel
theorem dX0_permute_34 : decode cX0_permute 34 = .ok (.iastore, 1) := by decide +kernel
theorem dX0_permute_35 : decode cX0_permute 35 = .ok (.aload_n 0, 1) := by decide +kernel
theorem dX0_permute_36 : decode cX0_permute 36 = .ok (.getfield 13, 3) := by decide +kernel
theorem dX0_permute_39 : decode cX0_permute 39 = .ok (.iconst 0, 1) := by decide +kernel
theorem dX0_permute_40 : decode cX0_permute 40 = .ok (.dup2, 1) := by decide +kernel
theorem dX0_permute_41 : decode cX0_permute 41 = .ok (.iaload, 1) := by decide +kernel
theorem dX0_permute_42 : decode cX0_permute 42 = .ok (.aload_n 0, 1) := by decide +kernel
theorem dX0_permute_43 : decode cX0_permute 43 = .ok (.getfield 19, 3) := by decide +kernel
theorem dX0_permute_46 : decode cX0_permute 46 = .ok (.iload_n 1, 1) := by decide +kernel
theorem dX0_permute_47 : decode cX0_permute 47 = .ok (.iaload, 1) := by decide +kernel
theorem dX0_permute_48 : decode cX0_permute 48 = .ok (.ixor, 1) := by decide +kernel
theorem dX0_permute_49 : decode cX0_permute 49 = .ok (.iastore, 1) := by decide +kernel
theorem dX0_permute_50 : decode cX0_permute 50 = .ok (.iinc 1 1, 3) := by decide +kernel
theorem dX0_permute_53 : decode cX0_permute 53 = .ok (.goto (-51), 3) := by decide +kernel
theorem dX0_permute_56 : decode cX0_permute 56 = .ok (.return_, 1) := by decide +kernel
abbrev cX0_mixColumns : ByteArray := prog_1_method_4_code
def yX0_mixColumns : MethodName := ⟨RX0, "mixColumns", "()V"⟩
theorem dX0_mixColumns_0 : decode cX0_mixColumns 0 = .ok (.iconst 0, 1) := by decide +kernel
theorem dX0_mixColumns_1 : decode cX0_mixColumns 1 = .ok (.istore_n 1, 1) := by decide +kernel
theorem dX0_mixColumns_2 : decode cX0_mixColumns 2 = .ok (.iload_n 1, 1) := by decide +kernel
theorem dX0_mixColumns_3 : decode cX0_mixColumns 3 = .ok (.iconst 5, 1) := by decide +kernel
theorem dX0_mixColumns_4 : decode cX0_mixColumns 4 = .ok (.if_icmp .ge 71, 3) := by decide +kernel
theorem dX0_mixColumns_7 : decode cX0_mixColumns 7 = .ok (.aload_n 0, 1) := by decide +kernel
theorem dX0_mixColumns_8 : decode cX0_mixColumns 8 = .ok (.getfield 25, 3) := by decide +kernel
theorem dX0_mixColumns_11 : decode cX0_mixColumns 11 = .ok (.iload_n 1, 1) := by decide +kernel
theorem dX0_mixColumns_12 : decode cX0_mixColumns 12 = .ok (.iconst 0, 1) := by decide +kernel
theorem dX0_mixColumns_13 : decode cX0_mixColumns 13 = .ok (.iastore, 1) := by decide +kernel
theorem dX0_mixColumns_14 : decode cX0_mixColumns 14 = .ok (.aload_n 0, 1) := by decide +kernel
theorem dX0_mixColumns_15 : decode cX0_mixColumns 15 = .ok (.getfield 28, 3) := by decide +kernel
theorem dX0_mixColumns_18 : decode cX0_mixColumns 18 = .ok (.iload_n 1, 1) := by decide +kernel
theorem dX0_mixColumns_19 : decode cX0_mixColumns 19 = .ok (.iconst 0, 1) := by decide +kernel
theorem dX0_mixColumns_20 : decode cX0_mixColumns 20 = .ok (.iastore, 1) := by decide +kernel
theorem dX0_mixColumns_21 : decode cX0_mixColumns 21 = .ok (.iconst 0, 1) := by decide +kernel
theorem dX0_mixColumns_22 : decode cX0_mixColumns 22 = .ok (.istore_n 2, 1) := by decide +kernel
theorem dX0_mixColumns_23 : decode cX0_mixColumns 23 = .ok (.iload_n 2, 1) := by decide +kernel
theorem dX0_mixColumns_24 : decode cX0_mixColumns 24 = .ok (.bipush 25, 2) := by decide +kernel
theorem dX0_mixColumns_26 : decode cX0_mixColumns 26 = .ok (.if_icmp .ge 43, 3) := by decide +kernel
theorem dX0_mixColumns_29 : decode cX0_mixColumns 29 = .ok (.aload_n 0, 1) := by decide +kernel
theorem dX0_mixColumns_30 : decode cX0_mixColumns 30 = .ok (.getfield 25, 3) := by decide +kernel
theorem dX0_mixColumns_33 : decode cX0_mixColumns 33 = .ok (.iload_n 1, 1) := by decide +kernel
theorem dX0_mixColumns_34 : decode cX0_mixColumns 34 = .ok (.dup2, 1) := by decide +kernel
theorem dX0_mixColumns_35 : decode cX0_mixColumns 35 = .ok (.iaload, 1) := by decide +kernel
theorem dX0_mixColumns_36 : decode cX0_mixColumns 36 = .ok (.aload_n 0, 1) := by decide +kernel
theorem dX0_mixColumns_37 : decode cX0_mixColumns 37 = .ok (.getfield 7, 3) := by decide +kernel
theorem dX0_mixColumns_40 : decode cX0_mixColumns 40 = .ok (.iload_n 1, 1) := by decide +kernel
theorem dX0_mixColumns_41 : decode cX0_mixColumns 41 = .ok (.iload_n 2, 1) := by decide +kernel
theorem dX0_mixColumns_42 : decode cX0_mixColumns 42 = .ok (.iadd, 1) := by decide +kernel
theorem dX0_mixColumns_43 : decode cX0_mixColumns 43 = .ok (.iaload, 1) := by decide +kernel
theorem dX0_mixColumns_44 : decode cX0_mixColumns 44 = .ok (.ixor, 1) := by decide +kernel
theorem dX0_mixColumns_45 : decode cX0_mixColumns 45 = .ok (.iastore, 1) := by decide +kernel
theorem dX0_mixColumns_46 : decode cX0_mixColumns 46 = .ok (.aload_n 0, 1) := by decide +kernel
theorem dX0_mixColumns_47 : decode cX0_mixColumns 47 = .ok (.getfield 28, 3) := by decide +kernel
theorem dX0_mixColumns_50 : decode cX0_mixColumns 50 = .ok (.iload_n 1, 1) := by decide +kernel
theorem dX0_mixColumns_51 : decode cX0_mixColumns 51 = .ok (.dup2, 1) := by decide +kernel
theorem dX0_mixColumns_52 : decode cX0_mixColumns 52 = .ok (.iaload, 1) := by decide +kernel
theorem dX0_mixColumns_53 : decode cX0_mixColumns 53 = .ok (.aload_n 0, 1) := by decide +kernel
theorem dX0_mixColumns_54 : decode cX0_mixColumns 54 = .ok (.getfield 13, 3) := by decide +kernel
theorem dX0_mixColumns_57 : decode cX0_mixColumns 57 = .ok (.iload_n 1, 1) := by decide +kernel
theorem dX0_mixColumns_58 : decode cX0_mixColumns 58 = .ok (.iload_n 2, 1) := by decide +kernel
theorem dX0_mixColumns_59 : decode cX0_mixColumns 59 = .ok (.iadd, 1) := by decide +kernel
theorem dX0_mixColumns_60 : decode cX0_mixColumns 60 = .ok (.iaload, 1) := by decide +kernel
theorem dX0_mixColumns_61 : decode cX0_mixColumns 61 = .ok (.ixor, 1) := by decide +kernel
theorem dX0_mixColumns_62 : decode cX0_mixColumns 62 = .ok (.iastore, 1) := by decide +kernel
theorem dX0_mixColumns_63 : decode cX0_mixColumns 63 = .ok (.iinc 2 5, 3) := by decide +kernel
theorem dX0_mixColumns_66 : decode cX0_mixColumns 66 = .ok (.goto (-43), 3) := by decide +kernel
theorem dX0_mixColumns_69 : decode cX0_mixColumns 69 = .ok (.iinc 1 1, 3) := by decide +kernel
theorem dX0_mixColumns_72 : decode cX0_mixColumns 72 = .ok (.goto (-70), 3) := by decide +kernel
theorem dX0_mixColumns_75 : decode cX0_mixColumns 75 = .ok (.iconst 0, 1) := by decide +kernel
theorem dX0_mixColumns_76 : decode cX0_mixColumns 76 = .ok (.istore_n 1, 1) := by decide +kernel
theorem dX0_mixColumns_77 : decode cX0_mixColumns 77 = .ok (.iload_n 1, 1) := by decide +kernel
theorem dX0_mixColumns_78 : decode cX0_mixColumns 78 = .ok (.bipush 25, 2) := by decide +kernel
theorem dX0_mixColumns_80 : decode cX0_mixColumns 80 = .ok (.if_icmp .ge 91, 3) := by decide +kernel
theorem dX0_mixColumns_83 : decode cX0_mixColumns 83 = .ok (.iload_n 1, 1) := by decide +kernel
theorem dX0_mixColumns_84 : decode cX0_mixColumns 84 = .ok (.iconst 4, 1) := by decide +kernel
theorem dX0_mixColumns_85 : decode cX0_mixColumns 85 = .ok (.iadd, 1) := by decide +kernel
theorem dX0_mixColumns_86 : decode cX0_mixColumns 86 = .ok (.iconst 5, 1) := by decide +kernel
theorem dX0_mixColumns_87 : decode cX0_mixColumns 87 = .ok (.irem, 1) := by decide +kernel
theorem dX0_mixColumns_88 : decode cX0_mixColumns 88 = .ok (.istore_n 2, 1) := by decide +kernel
theorem dX0_mixColumns_89 : decode cX0_mixColumns 89 = .ok (.iload_n 1, 1) := by decide +kernel
theorem dX0_mixColumns_90 : decode cX0_mixColumns 90 = .ok (.iconst 1, 1) := by decide +kernel
theorem dX0_mixColumns_91 : decode cX0_mixColumns 91 = .ok (.iadd, 1) := by decide +kernel
theorem dX0_mixColumns_92 : decode cX0_mixColumns 92 = .ok (.iconst 5, 1) := by decide +kernel
theorem dX0_mixColumns_93 : decode cX0_mixColumns 93 = .ok (.irem, 1) := by decide +kernel
theorem dX0_mixColumns_94 : decode cX0_mixColumns 94 = .ok (.istore_n 3, 1) := by decide +kernel
theorem dX0_mixColumns_95 : decode cX0_mixColumns 95 = .ok (.aload_n 0, 1) := by decide +kernel
theorem dX0_mixColumns_96 : decode cX0_mixColumns 96 = .ok (.getfield 7, 3) := by decide +kernel
theorem dX0_mixColumns_99 : decode cX0_mixColumns 99 = .ok (.iload_n 1, 1) := by decide +kernel
theorem dX0_mixColumns_100 : decode cX0_mixColumns 100 = .ok (.dup2, 1) := by decide +kernel
theorem dX0_mixColumns_101 : decode cX0_mixColumns 101 = .ok (.iaload, 1) := by decide +kernel
theorem dX0_mixColumns_102 : decode cX0_mixColumns 102 = .ok (.aload_n 0, 1) := by decide +kernel
theorem dX0_mixColumns_103 : decode cX0_mixColumns 103 = .ok (.getfield 25, 3) := by decide +kernel
theorem dX0_mixColumns_106 : decode cX0_mixColumns 106 = .ok (.iload_n 2, 1) := by decide +kernel
theorem dX0_mixColumns_107 : decode cX0_mixColumns 107 = .ok (.iconst 5, 1) := by decide +kernel
theorem dX0_mixColumns_108 : decode cX0_mixColumns 108 = .ok (.irem, 1) := by decide +kernel
theorem dX0_mixColumns_109 : decode cX0_mixColumns 109 = .ok (.iaload, 1) := by decide +kernel
theorem dX0_mixColumns_110 : decode cX0_mixColumns 110 = .ok (.aload_n 0, 1) := by decide +kernel
theorem dX0_mixColumns_111 : decode cX0_mixColumns 111 = .ok (.getfield 25, 3) := by decide +kernel
theorem dX0_mixColumns_114 : decode cX0_mixColumns 114 = .ok (.iload_n 3, 1) := by decide +kernel
theorem dX0_mixColumns_115 : decode cX0_mixColumns 115 = .ok (.iaload, 1) := by decide +kernel
theorem dX0_mixColumns_116 : decode cX0_mixColumns 116 = .ok (.aload_n 0, 1) := by decide +kernel
theorem dX0_mixColumns_117 : decode cX0_mixColumns 117 = .ok (.getfield 28, 3) := by decide +kernel
theorem dX0_mixColumns_120 : decode cX0_mixColumns 120 = .ok (.iload_n 3, 1) := by decide +kernel
theorem dX0_mixColumns_121 : decode cX0_mixColumns 121 = .ok (.iaload, 1) := by decide +kernel
theorem dX0_mixColumns_122 : decode cX0_mixColumns 122 = .ok (.iconst 1, 1) := by decide +kernel
theorem dX0_mixColumns_123 : decode cX0_mixColumns 123 = .ok (.iconst 0, 1) := by decide +kernel
theorem dX0_mixColumns_124 : decode cX0_mixColumns 124 = .ok (.invokestatic 35, 3) := by decide +kernel
theorem dX0_mixColumns_127 : decode cX0_mixColumns 127 = .ok (.ixor, 1) := by decide +kernel
theorem dX0_mixColumns_128 : decode cX0_mixColumns 128 = .ok (.ixor, 1) := by decide +kernel
theorem dX0_mixColumns_129 : decode cX0_mixColumns 129 = .ok (.iastore, 1) := by decide +kernel
theorem dX0_mixColumns_130 : decode cX0_mixColumns 130 = .ok (.aload_n 0, 1) := by decide +kernel
theorem dX0_mixColumns_131 : decode cX0_mixColumns 131 = .ok (.getfield 13, 3) := by decide +kernel
theorem dX0_mixColumns_134 : decode cX0_mixColumns 134 = .ok (.iload_n 1, 1) := by decide +kernel
theorem dX0_mixColumns_135 : decode cX0_mixColumns 135 = .ok (.dup2, 1) := by decide +kernel
theorem dX0_mixColumns_136 : decode cX0_mixColumns 136 = .ok (.iaload, 1) := by decide +kernel
theorem dX0_mixColumns_137 : decode cX0_mixColumns 137 = .ok (.aload_n 0, 1) := by decide +kernel
theorem dX0_mixColumns_138 : decode cX0_mixColumns 138 = .ok (.getfield 28, 3) := by decide +kernel
theorem dX0_mixColumns_141 : decode cX0_mixColumns 141 = .ok (.iload_n 2, 1) := by decide +kernel
theorem dX0_mixColumns_142 : decode cX0_mixColumns 142 = .ok (.iconst 5, 1) := by decide +kernel
theorem dX0_mixColumns_143 : decode cX0_mixColumns 143 = .ok (.irem, 1) := by decide +kernel
theorem dX0_mixColumns_144 : decode cX0_mixColumns 144 = .ok (.iaload, 1) := by decide +kernel
theorem dX0_mixColumns_145 : decode cX0_mixColumns 145 = .ok (.aload_n 0, 1) := by decide +kernel
theorem dX0_mixColumns_146 : decode cX0_mixColumns 146 = .ok (.getfield 25, 3) := by decide +kernel
theorem dX0_mixColumns_149 : decode cX0_mixColumns 149 = .ok (.iload_n 3, 1) := by decide +kernel
theorem dX0_mixColumns_150 : decode cX0_mixColumns 150 = .ok (.iaload, 1) := by decide +kernel
theorem dX0_mixColumns_151 : decode cX0_mixColumns 151 = .ok (.aload_n 0, 1) := by decide +kernel
theorem dX0_mixColumns_152 : decode cX0_mixColumns 152 = .ok (.getfield 28, 3) := by decide +kernel
theorem dX0_mixColumns_155 : decode cX0_mixColumns 155 = .ok (.iload_n 3, 1) := by decide +kernel
theorem dX0_mixColumns_156 : decode cX0_mixColumns 156 = .ok (.iaload, 1) := by decide +kernel
theorem dX0_mixColumns_157 : decode cX0_mixColumns 157 = .ok (.iconst 1, 1) := by decide +kernel
theorem dX0_mixColumns_158 : decode cX0_mixColumns 158 = .ok (.iconst 1, 1) := by decide +kernel
theorem dX0_mixColumns_159 : decode cX0_mixColumns 159 = .ok (.invokestatic 35, 3) := by decide +kernel
theorem dX0_mixColumns_162 : decode cX0_mixColumns 162 = .ok (.ixor, 1) := by decide +kernel
theorem dX0_mixColumns_163 : decode cX0_mixColumns 163 = .ok (.ixor, 1) := by decide +kernel
theorem dX0_mixColumns_164 : decode cX0_mixColumns 164 = .ok (.iastore, 1) := by decide +kernel
theorem dX0_mixColumns_165 : decode cX0_mixColumns 165 = .ok (.iinc 1 1, 3) := by decide +kernel
theorem dX0_mixColumns_168 : decode cX0_mixColumns 168 = .ok (.goto (-91), 3) := by decide +kernel
theorem dX0_mixColumns_171 : decode cX0_mixColumns 171 = .ok (.return_, 1) := by decide +kernel
abbrev cX0_turned : ByteArray := prog_1_method_3_code
def yX0_turned : MethodName := ⟨RX0, "turned", "(IIIZ)I"⟩
theorem dX0_turned_0 : decode cX0_turned 0 = .ok (.iload_n 2, 1) := by decide +kernel
theorem dX0_turned_1 : decode cX0_turned 1 = .ok (.bipush 32, 2) := by decide +kernel
theorem dX0_turned_3 : decode cX0_turned 3 = .ok (.if_icmp .ge 7, 3) := by decide +kernel
theorem dX0_turned_6 : decode cX0_turned 6 = .ok (.iconst 1, 1) := by decide +kernel
theorem dX0_turned_7 : decode cX0_turned 7 = .ok (.goto 4, 3) := by decide +kernel
theorem dX0_turned_10 : decode cX0_turned 10 = .ok (.iconst 0, 1) := by decide +kernel
theorem dX0_turned_11 : decode cX0_turned 11 = .ok (.iload_n 3, 1) := by decide +kernel
theorem dX0_turned_12 : decode cX0_turned 12 = .ok (.if_icmp .eq 7, 3) := by decide +kernel
theorem dX0_turned_15 : decode cX0_turned 15 = .ok (.iload_n 0, 1) := by decide +kernel
theorem dX0_turned_16 : decode cX0_turned 16 = .ok (.goto 4, 3) := by decide +kernel
theorem dX0_turned_19 : decode cX0_turned 19 = .ok (.iload_n 1, 1) := by decide +kernel
theorem dX0_turned_20 : decode cX0_turned 20 = .ok (.istore 4, 2) := by decide +kernel
theorem dX0_turned_22 : decode cX0_turned 22 = .ok (.iload_n 2, 1) := by decide +kernel
theorem dX0_turned_23 : decode cX0_turned 23 = .ok (.bipush 32, 2) := by decide +kernel
theorem dX0_turned_25 : decode cX0_turned 25 = .ok (.if_icmp .ge 7, 3) := by decide +kernel
theorem dX0_turned_28 : decode cX0_turned 28 = .ok (.iconst 1, 1) := by decide +kernel
theorem dX0_turned_29 : decode cX0_turned 29 = .ok (.goto 4, 3) := by decide +kernel
theorem dX0_turned_32 : decode cX0_turned 32 = .ok (.iconst 0, 1) := by decide +kernel
theorem dX0_turned_33 : decode cX0_turned 33 = .ok (.iload_n 3, 1) := by decide +kernel
theorem dX0_turned_34 : decode cX0_turned 34 = .ok (.if_icmp .eq 7, 3) := by decide +kernel
theorem dX0_turned_37 : decode cX0_turned 37 = .ok (.iload_n 1, 1) := by decide +kernel
theorem dX0_turned_38 : decode cX0_turned 38 = .ok (.goto 4, 3) := by decide +kernel
theorem dX0_turned_41 : decode cX0_turned 41 = .ok (.iload_n 0, 1) := by decide +kernel
theorem dX0_turned_42 : decode cX0_turned 42 = .ok (.istore 5, 2) := by decide +kernel
theorem dX0_turned_44 : decode cX0_turned 44 = .ok (.iload_n 2, 1) := by decide +kernel
theorem dX0_turned_45 : decode cX0_turned 45 = .ok (.bipush 32, 2) := by decide +kernel
theorem dX0_turned_47 : decode cX0_turned 47 = .ok (.irem, 1) := by decide +kernel
theorem dX0_turned_48 : decode cX0_turned 48 = .ok (.istore 6, 2) := by decide +kernel
theorem dX0_turned_50 : decode cX0_turned 50 = .ok (.iload 6, 2) := by decide +kernel
theorem dX0_turned_52 : decode cX0_turned 52 = .ok (.ifCond .ne 8, 3) := by decide +kernel
theorem dX0_turned_55 : decode cX0_turned 55 = .ok (.iload 4, 2) := by decide +kernel
theorem dX0_turned_57 : decode cX0_turned 57 = .ok (.goto 17, 3) := by decide +kernel
theorem dX0_turned_60 : decode cX0_turned 60 = .ok (.iload 4, 2) := by decide +kernel
theorem dX0_turned_62 : decode cX0_turned 62 = .ok (.iload 6, 2) := by decide +kernel
theorem dX0_turned_64 : decode cX0_turned 64 = .ok (.ishl, 1) := by decide +kernel
theorem dX0_turned_65 : decode cX0_turned 65 = .ok (.iload 5, 2) := by decide +kernel
theorem dX0_turned_67 : decode cX0_turned 67 = .ok (.bipush 32, 2) := by decide +kernel
theorem dX0_turned_69 : decode cX0_turned 69 = .ok (.iload 6, 2) := by decide +kernel
theorem dX0_turned_71 : decode cX0_turned 71 = .ok (.isub, 1) := by decide +kernel
theorem dX0_turned_72 : decode cX0_turned 72 = .ok (.iushr, 1) := by decide +kernel
theorem dX0_turned_73 : decode cX0_turned 73 = .ok (.ior, 1) := by decide +kernel
theorem dX0_turned_74 : decode cX0_turned 74 = .ok (.ireturn, 1) := by decide +kernel
abbrev cX0_move : ByteArray := prog_1_method_5_code
def yX0_move : MethodName := ⟨RX0, "move", "()V"⟩
theorem dX0_move_0 : decode cX0_move 0 = .ok (.iconst 0, 1) := by decide +kernel
theorem dX0_move_1 : decode cX0_move 1 = .ok (.istore_n 1, 1) := by decide +kernel
theorem dX0_move_2 : decode cX0_move 2 = .ok (.iload_n 1, 1) := by decide +kernel
theorem dX0_move_3 : decode cX0_move 3 = .ok (.iconst 5, 1) := by decide +kernel
theorem dX0_move_4 : decode cX0_move 4 = .ok (.if_icmp .ge 101, 3) := by decide +kernel
theorem dX0_move_7 : decode cX0_move 7 = .ok (.iconst 0, 1) := by decide +kernel
theorem dX0_move_8 : decode cX0_move 8 = .ok (.istore_n 2, 1) := by decide +kernel
theorem dX0_move_9 : decode cX0_move 9 = .ok (.iload_n 2, 1) := by decide +kernel
theorem dX0_move_10 : decode cX0_move 10 = .ok (.iconst 5, 1) := by decide +kernel
theorem dX0_move_11 : decode cX0_move 11 = .ok (.if_icmp .ge 88, 3) := by decide +kernel
theorem dX0_move_14 : decode cX0_move 14 = .ok (.iload_n 1, 1) := by decide +kernel
theorem dX0_move_15 : decode cX0_move 15 = .ok (.iconst 5, 1) := by decide +kernel
theorem dX0_move_16 : decode cX0_move 16 = .ok (.iload_n 2, 1) := by decide +kernel
theorem dX0_move_17 : decode cX0_move 17 = .ok (.imul, 1) := by decide +kernel
theorem dX0_move_18 : decode cX0_move 18 = .ok (.iadd, 1) := by decide +kernel
theorem dX0_move_19 : decode cX0_move 19 = .ok (.istore_n 3, 1) := by decide +kernel
theorem dX0_move_20 : decode cX0_move 20 = .ok (.iload_n 2, 1) := by decide +kernel
theorem dX0_move_21 : decode cX0_move 21 = .ok (.iconst 5, 1) := by decide +kernel
theorem dX0_move_22 : decode cX0_move 22 = .ok (.iconst 2, 1) := by decide +kernel
theorem dX0_move_23 : decode cX0_move 23 = .ok (.iload_n 1, 1) := by decide +kernel
theorem dX0_move_24 : decode cX0_move 24 = .ok (.imul, 1) := by decide +kernel
theorem dX0_move_25 : decode cX0_move 25 = .ok (.iconst 3, 1) := by decide +kernel
theorem dX0_move_26 : decode cX0_move 26 = .ok (.iload_n 2, 1) := by decide +kernel
theorem dX0_move_27 : decode cX0_move 27 = .ok (.imul, 1) := by decide +kernel
theorem dX0_move_28 : decode cX0_move 28 = .ok (.iadd, 1) := by decide +kernel
theorem dX0_move_29 : decode cX0_move 29 = .ok (.iconst 5, 1) := by decide +kernel
theorem dX0_move_30 : decode cX0_move 30 = .ok (.irem, 1) := by decide +kernel
theorem dX0_move_31 : decode cX0_move 31 = .ok (.imul, 1) := by decide +kernel
theorem dX0_move_32 : decode cX0_move 32 = .ok (.iadd, 1) := by decide +kernel
theorem dX0_move_33 : decode cX0_move 33 = .ok (.istore 4, 2) := by decide +kernel
theorem dX0_move_35 : decode cX0_move 35 = .ok (.aload_n 0, 1) := by decide +kernel
theorem dX0_move_36 : decode cX0_move 36 = .ok (.getfield 25, 3) := by decide +kernel
theorem dX0_move_39 : decode cX0_move 39 = .ok (.iload 4, 2) := by decide +kernel
theorem dX0_move_41 : decode cX0_move 41 = .ok (.aload_n 0, 1) := by decide +kernel
theorem dX0_move_42 : decode cX0_move 42 = .ok (.getfield 7, 3) := by decide +kernel
theorem dX0_move_45 : decode cX0_move 45 = .ok (.iload_n 3, 1) := by decide +kernel
theorem dX0_move_46 : decode cX0_move 46 = .ok (.iaload, 1) := by decide +kernel
theorem dX0_move_47 : decode cX0_move 47 = .ok (.aload_n 0, 1) := by decide +kernel
theorem dX0_move_48 : decode cX0_move 48 = .ok (.getfield 13, 3) := by decide +kernel
theorem dX0_move_51 : decode cX0_move 51 = .ok (.iload_n 3, 1) := by decide +kernel
theorem dX0_move_52 : decode cX0_move 52 = .ok (.iaload, 1) := by decide +kernel
theorem dX0_move_53 : decode cX0_move 53 = .ok (.aload_n 0, 1) := by decide +kernel
theorem dX0_move_54 : decode cX0_move 54 = .ok (.getfield 22, 3) := by decide +kernel
theorem dX0_move_57 : decode cX0_move 57 = .ok (.iload_n 3, 1) := by decide +kernel
theorem dX0_move_58 : decode cX0_move 58 = .ok (.iaload, 1) := by decide +kernel
theorem dX0_move_59 : decode cX0_move 59 = .ok (.iconst 0, 1) := by decide +kernel
theorem dX0_move_60 : decode cX0_move 60 = .ok (.invokestatic 35, 3) := by decide +kernel
theorem dX0_move_63 : decode cX0_move 63 = .ok (.iastore, 1) := by decide +kernel
theorem dX0_move_64 : decode cX0_move 64 = .ok (.aload_n 0, 1) := by decide +kernel
theorem dX0_move_65 : decode cX0_move 65 = .ok (.getfield 28, 3) := by decide +kernel
theorem dX0_move_68 : decode cX0_move 68 = .ok (.iload 4, 2) := by decide +kernel
theorem dX0_move_70 : decode cX0_move 70 = .ok (.aload_n 0, 1) := by decide +kernel
theorem dX0_move_71 : decode cX0_move 71 = .ok (.getfield 7, 3) := by decide +kernel
theorem dX0_move_74 : decode cX0_move 74 = .ok (.iload_n 3, 1) := by decide +kernel
theorem dX0_move_75 : decode cX0_move 75 = .ok (.iaload, 1) := by decide +kernel
theorem dX0_move_76 : decode cX0_move 76 = .ok (.aload_n 0, 1) := by decide +kernel
theorem dX0_move_77 : decode cX0_move 77 = .ok (.getfield 13, 3) := by decide +kernel
theorem dX0_move_80 : decode cX0_move 80 = .ok (.iload_n 3, 1) := by decide +kernel
theorem dX0_move_81 : decode cX0_move 81 = .ok (.iaload, 1) := by decide +kernel
theorem dX0_move_82 : decode cX0_move 82 = .ok (.aload_n 0, 1) := by decide +kernel
theorem dX0_move_83 : decode cX0_move 83 = .ok (.getfield 22, 3) := by decide +kernel
theorem dX0_move_86 : decode cX0_move 86 = .ok (.iload_n 3, 1) := by decide +kernel
theorem dX0_move_87 : decode cX0_move 87 = .ok (.iaload, 1) := by decide +kernel
theorem dX0_move_88 : decode cX0_move 88 = .ok (.iconst 1, 1) := by decide +kernel
theorem dX0_move_89 : decode cX0_move 89 = .ok (.invokestatic 35, 3) := by decide +kernel
theorem dX0_move_92 : decode cX0_move 92 = .ok (.iastore, 1) := by decide +kernel
theorem dX0_move_93 : decode cX0_move 93 = .ok (.iinc 2 1, 3) := by decide +kernel
theorem dX0_move_96 : decode cX0_move 96 = .ok (.goto (-87), 3) := by decide +kernel
theorem dX0_move_99 : decode cX0_move 99 = .ok (.iinc 1 1, 3) := by decide +kernel
theorem dX0_move_102 : decode cX0_move 102 = .ok (.goto (-100), 3) := by decide +kernel
theorem dX0_move_105 : decode cX0_move 105 = .ok (.return_, 1) := by decide +kernel
abbrev cX0_mixRows : ByteArray := prog_1_method_6_code
def yX0_mixRows : MethodName := ⟨RX0, "mixRows", "()V"⟩
theorem dX0_mixRows_0 : decode cX0_mixRows 0 = .ok (.iconst 0, 1) := by decide +kernel
theorem dX0_mixRows_1 : decode cX0_mixRows 1 = .ok (.istore_n 1, 1) := by decide +kernel
theorem dX0_mixRows_2 : decode cX0_mixRows 2 = .ok (.iload_n 1, 1) := by decide +kernel
theorem dX0_mixRows_3 : decode cX0_mixRows 3 = .ok (.bipush 25, 2) := by decide +kernel
theorem dX0_mixRows_5 : decode cX0_mixRows 5 = .ok (.if_icmp .ge 105, 3) := by decide +kernel
theorem dX0_mixRows_8 : decode cX0_mixRows 8 = .ok (.iconst 0, 1) := by decide +kernel
theorem dX0_mixRows_9 : decode cX0_mixRows 9 = .ok (.istore_n 2, 1) := by decide +kernel
theorem dX0_mixRows_10 : decode cX0_mixRows 10 = .ok (.iload_n 2, 1) := by decide +kernel
theorem dX0_mixRows_11 : decode cX0_mixRows 11 = .ok (.iconst 5, 1) := by decide +kernel
theorem dX0_mixRows_12 : decode cX0_mixRows 12 = .ok (.if_icmp .ge 92, 3) := by decide +kernel
theorem dX0_mixRows_15 : decode cX0_mixRows 15 = .ok (.iload_n 1, 1) := by decide +kernel
theorem dX0_mixRows_16 : decode cX0_mixRows 16 = .ok (.iload_n 2, 1) := by decide +kernel
theorem dX0_mixRows_17 : decode cX0_mixRows 17 = .ok (.iconst 1, 1) := by decide +kernel
theorem dX0_mixRows_18 : decode cX0_mixRows 18 = .ok (.iadd, 1) := by decide +kernel
theorem dX0_mixRows_19 : decode cX0_mixRows 19 = .ok (.iconst 5, 1) := by decide +kernel
theorem dX0_mixRows_20 : decode cX0_mixRows 20 = .ok (.irem, 1) := by decide +kernel
theorem dX0_mixRows_21 : decode cX0_mixRows 21 = .ok (.iadd, 1) := by decide +kernel
theorem dX0_mixRows_22 : decode cX0_mixRows 22 = .ok (.istore_n 3, 1) := by decide +kernel
theorem dX0_mixRows_23 : decode cX0_mixRows 23 = .ok (.iload_n 1, 1) := by decide +kernel
theorem dX0_mixRows_24 : decode cX0_mixRows 24 = .ok (.iload_n 2, 1) := by decide +kernel
theorem dX0_mixRows_25 : decode cX0_mixRows 25 = .ok (.iconst 2, 1) := by decide +kernel
theorem dX0_mixRows_26 : decode cX0_mixRows 26 = .ok (.iadd, 1) := by decide +kernel
theorem dX0_mixRows_27 : decode cX0_mixRows 27 = .ok (.iconst 5, 1) := by decide +kernel
theorem dX0_mixRows_28 : decode cX0_mixRows 28 = .ok (.irem, 1) := by decide +kernel
theorem dX0_mixRows_29 : decode cX0_mixRows 29 = .ok (.iadd, 1) := by decide +kernel
theorem dX0_mixRows_30 : decode cX0_mixRows 30 = .ok (.istore 4, 2) := by decide +kernel
theorem dX0_mixRows_32 : decode cX0_mixRows 32 = .ok (.aload_n 0, 1) := by decide +kernel
theorem dX0_mixRows_33 : decode cX0_mixRows 33 = .ok (.getfield 7, 3) := by decide +kernel
theorem dX0_mixRows_36 : decode cX0_mixRows 36 = .ok (.iload_n 2, 1) := by decide +kernel
theorem dX0_mixRows_37 : decode cX0_mixRows 37 = .ok (.iload_n 1, 1) := by decide +kernel
theorem dX0_mixRows_38 : decode cX0_mixRows 38 = .ok (.iadd, 1) := by decide +kernel
theorem dX0_mixRows_39 : decode cX0_mixRows 39 = .ok (.aload_n 0, 1) := by decide +kernel
theorem dX0_mixRows_40 : decode cX0_mixRows 40 = .ok (.getfield 25, 3) := by decide +kernel
theorem dX0_mixRows_43 : decode cX0_mixRows 43 = .ok (.iload_n 2, 1) := by decide +kernel
theorem dX0_mixRows_44 : decode cX0_mixRows 44 = .ok (.iload_n 1, 1) := by decide +kernel
theorem dX0_mixRows_45 : decode cX0_mixRows 45 = .ok (.iadd, 1) := by decide +kernel
theorem dX0_mixRows_46 : decode cX0_mixRows 46 = .ok (.iaload, 1) := by decide +kernel
theorem dX0_mixRows_47 : decode cX0_mixRows 47 = .ok (.aload_n 0, 1) := by decide +kernel
theorem dX0_mixRows_48 : decode cX0_mixRows 48 = .ok (.getfield 25, 3) := by decide +kernel
theorem dX0_mixRows_51 : decode cX0_mixRows 51 = .ok (.iload_n 3, 1) := by decide +kernel
theorem dX0_mixRows_52 : decode cX0_mixRows 52 = .ok (.iaload, 1) := by decide +kernel
theorem dX0_mixRows_53 : decode cX0_mixRows 53 = .ok (.iconst (-1), 1) := by decide +kernel
theorem dX0_mixRows_54 : decode cX0_mixRows 54 = .ok (.ixor, 1) := by decide +kernel
theorem dX0_mixRows_55 : decode cX0_mixRows 55 = .ok (.aload_n 0, 1) := by decide +kernel
theorem dX0_mixRows_56 : decode cX0_mixRows 56 = .ok (.getfield 25, 3) := by decide +kernel
theorem dX0_mixRows_59 : decode cX0_mixRows 59 = .ok (.iload 4, 2) := by decide +kernel
theorem dX0_mixRows_61 : decode cX0_mixRows 61 = .ok (.iaload, 1) := by decide +kernel
theorem dX0_mixRows_62 : decode cX0_mixRows 62 = .ok (.iand, 1) := by decide +kernel
theorem dX0_mixRows_63 : decode cX0_mixRows 63 = .ok (.ixor, 1) := by decide +kernel
theorem dX0_mixRows_64 : decode cX0_mixRows 64 = .ok (.iastore, 1) := by decide +kernel
theorem dX0_mixRows_65 : decode cX0_mixRows 65 = .ok (.aload_n 0, 1) := by decide +kernel
theorem dX0_mixRows_66 : decode cX0_mixRows 66 = .ok (.getfield 13, 3) := by decide +kernel
theorem dX0_mixRows_69 : decode cX0_mixRows 69 = .ok (.iload_n 2, 1) := by decide +kernel
theorem dX0_mixRows_70 : decode cX0_mixRows 70 = .ok (.iload_n 1, 1) := by decide +kernel
theorem dX0_mixRows_71 : decode cX0_mixRows 71 = .ok (.iadd, 1) := by decide +kernel
theorem dX0_mixRows_72 : decode cX0_mixRows 72 = .ok (.aload_n 0, 1) := by decide +kernel
theorem dX0_mixRows_73 : decode cX0_mixRows 73 = .ok (.getfield 28, 3) := by decide +kernel
theorem dX0_mixRows_76 : decode cX0_mixRows 76 = .ok (.iload_n 2, 1) := by decide +kernel
theorem dX0_mixRows_77 : decode cX0_mixRows 77 = .ok (.iload_n 1, 1) := by decide +kernel
theorem dX0_mixRows_78 : decode cX0_mixRows 78 = .ok (.iadd, 1) := by decide +kernel
theorem dX0_mixRows_79 : decode cX0_mixRows 79 = .ok (.iaload, 1) := by decide +kernel
theorem dX0_mixRows_80 : decode cX0_mixRows 80 = .ok (.aload_n 0, 1) := by decide +kernel
theorem dX0_mixRows_81 : decode cX0_mixRows 81 = .ok (.getfield 28, 3) := by decide +kernel
theorem dX0_mixRows_84 : decode cX0_mixRows 84 = .ok (.iload_n 3, 1) := by decide +kernel
theorem dX0_mixRows_85 : decode cX0_mixRows 85 = .ok (.iaload, 1) := by decide +kernel
theorem dX0_mixRows_86 : decode cX0_mixRows 86 = .ok (.iconst (-1), 1) := by decide +kernel
theorem dX0_mixRows_87 : decode cX0_mixRows 87 = .ok (.ixor, 1) := by decide +kernel
theorem dX0_mixRows_88 : decode cX0_mixRows 88 = .ok (.aload_n 0, 1) := by decide +kernel
theorem dX0_mixRows_89 : decode cX0_mixRows 89 = .ok (.getfield 28, 3) := by decide +kernel
theorem dX0_mixRows_92 : decode cX0_mixRows 92 = .ok (.iload 4, 2) := by decide +kernel
theorem dX0_mixRows_94 : decode cX0_mixRows 94 = .ok (.iaload, 1) := by decide +kernel
theorem dX0_mixRows_95 : decode cX0_mixRows 95 = .ok (.iand, 1) := by decide +kernel
theorem dX0_mixRows_96 : decode cX0_mixRows 96 = .ok (.ixor, 1) := by decide +kernel
theorem dX0_mixRows_97 : decode cX0_mixRows 97 = .ok (.iastore, 1) := by decide +kernel
theorem dX0_mixRows_98 : decode cX0_mixRows 98 = .ok (.iinc 2 1, 3) := by decide +kernel
theorem dX0_mixRows_101 : decode cX0_mixRows 101 = .ok (.goto (-91), 3) := by decide +kernel
theorem dX0_mixRows_104 : decode cX0_mixRows 104 = .ok (.iinc 1 5, 3) := by decide +kernel
theorem dX0_mixRows_107 : decode cX0_mixRows 107 = .ok (.goto (-105), 3) := by decide +kernel
theorem dX0_mixRows_110 : decode cX0_mixRows 110 = .ok (.return_, 1) := by decide +kernel
abbrev cX0_squeeze : ByteArray := prog_1_method_12_code
def yX0_squeeze : MethodName := ⟨RX0, "squeeze", "()I"⟩
theorem dX0_squeeze_0 : decode cX0_squeeze 0 = .ok (.aload_n 0, 1) := by decide +kernel
theorem dX0_squeeze_1 : decode cX0_squeeze 1 = .ok (.getfield 67, 3) := by decide +kernel
theorem dX0_squeeze_4 : decode cX0_squeeze 4 = .ok (.ifCond .ne 5, 3) := by decide +kernel
theorem dX0_squeeze_7 : decode cX0_squeeze 7 = .ok (.iconst (-1), 1) := by decide +kernel
theorem dX0_squeeze_8 : decode cX0_squeeze 8 = .ok (.ireturn, 1) := by decide +kernel
theorem dX0_squeeze_9 : decode cX0_squeeze 9 = .ok (.aload_n 0, 1) := by decide +kernel
theorem dX0_squeeze_10 : decode cX0_squeeze 10 = .ok (.getfield 67, 3) := by decide +kernel
theorem dX0_squeeze_13 : decode cX0_squeeze 13 = .ok (.iconst 1, 1) := by decide +kernel
theorem dX0_squeeze_14 : decode cX0_squeeze 14 = .ok (.if_icmp .ne 42, 3) := by decide +kernel
theorem dX0_squeeze_17 : decode cX0_squeeze 17 = .ok (.aload_n 0, 1) := by decide +kernel
theorem dX0_squeeze_18 : decode cX0_squeeze 18 = .ok (.aload_n 0, 1) := by decide +kernel
theorem dX0_squeeze_19 : decode cX0_squeeze 19 = .ok (.getfield 58, 3) := by decide +kernel
theorem dX0_squeeze_22 : decode cX0_squeeze 22 = .ok (.aload_n 0, 1) := by decide +kernel
theorem dX0_squeeze_23 : decode cX0_squeeze 23 = .ok (.getfield 52, 3) := by decide +kernel
theorem dX0_squeeze_26 : decode cX0_squeeze 26 = .ok (.invokevirtual 70, 3) := by decide +kernel
theorem dX0_squeeze_29 : decode cX0_squeeze 29 = .ok (.aload_n 0, 1) := by decide +kernel
theorem dX0_squeeze_30 : decode cX0_squeeze 30 = .ok (.aload_n 0, 1) := by decide +kernel
theorem dX0_squeeze_31 : decode cX0_squeeze 31 = .ok (.getfield 48, 3) := by decide +kernel
theorem dX0_squeeze_34 : decode cX0_squeeze 34 = .ok (.iconst 1, 1) := by decide +kernel
theorem dX0_squeeze_35 : decode cX0_squeeze 35 = .ok (.isub, 1) := by decide +kernel
theorem dX0_squeeze_36 : decode cX0_squeeze 36 = .ok (.sipush 128, 3) := by decide +kernel
theorem dX0_squeeze_39 : decode cX0_squeeze 39 = .ok (.invokevirtual 70, 3) := by decide +kernel
theorem dX0_squeeze_42 : decode cX0_squeeze 42 = .ok (.aload_n 0, 1) := by decide +kernel
theorem dX0_squeeze_43 : decode cX0_squeeze 43 = .ok (.invokevirtual 74, 3) := by decide +kernel
theorem dX0_squeeze_46 : decode cX0_squeeze 46 = .ok (.aload_n 0, 1) := by decide +kernel
theorem dX0_squeeze_47 : decode cX0_squeeze 47 = .ok (.iconst 0, 1) := by decide +kernel
theorem dX0_squeeze_48 : decode cX0_squeeze 48 = .ok (.putfield 58, 3) := by decide +kernel
theorem dX0_squeeze_51 : decode cX0_squeeze 51 = .ok (.aload_n 0, 1) := by decide +kernel
theorem dX0_squeeze_52 : decode cX0_squeeze 52 = .ok (.iconst 2, 1) := by decide +kernel
theorem dX0_squeeze_53 : decode cX0_squeeze 53 = .ok (.putfield 67, 3) := by decide +kernel
theorem dX0_squeeze_56 : decode cX0_squeeze 56 = .ok (.aload_n 0, 1) := by decide +kernel
theorem dX0_squeeze_57 : decode cX0_squeeze 57 = .ok (.getfield 61, 3) := by decide +kernel
theorem dX0_squeeze_60 : decode cX0_squeeze 60 = .ok (.aload_n 0, 1) := by decide +kernel
theorem dX0_squeeze_61 : decode cX0_squeeze 61 = .ok (.getfield 55, 3) := by decide +kernel
theorem dX0_squeeze_64 : decode cX0_squeeze 64 = .ok (.if_icmp .ne 6, 3) := by decide +kernel
theorem dX0_squeeze_67 : decode cX0_squeeze 67 = .ok (.bipush (-2), 2) := by decide +kernel
theorem dX0_squeeze_69 : decode cX0_squeeze 69 = .ok (.ireturn, 1) := by decide +kernel
theorem dX0_squeeze_70 : decode cX0_squeeze 70 = .ok (.aload_n 0, 1) := by decide +kernel
theorem dX0_squeeze_71 : decode cX0_squeeze 71 = .ok (.getfield 58, 3) := by decide +kernel
theorem dX0_squeeze_74 : decode cX0_squeeze 74 = .ok (.aload_n 0, 1) := by decide +kernel
theorem dX0_squeeze_75 : decode cX0_squeeze 75 = .ok (.getfield 48, 3) := by decide +kernel
theorem dX0_squeeze_78 : decode cX0_squeeze 78 = .ok (.if_icmp .ne 12, 3) := by decide +kernel
theorem dX0_squeeze_81 : decode cX0_squeeze 81 = .ok (.aload_n 0, 1) := by decide +kernel
theorem dX0_squeeze_82 : decode cX0_squeeze 82 = .ok (.invokevirtual 74, 3) := by decide +kernel
theorem dX0_squeeze_85 : decode cX0_squeeze 85 = .ok (.aload_n 0, 1) := by decide +kernel
theorem dX0_squeeze_86 : decode cX0_squeeze 86 = .ok (.iconst 0, 1) := by decide +kernel
theorem dX0_squeeze_87 : decode cX0_squeeze 87 = .ok (.putfield 58, 3) := by decide +kernel
theorem dX0_squeeze_90 : decode cX0_squeeze 90 = .ok (.aload_n 0, 1) := by decide +kernel
theorem dX0_squeeze_91 : decode cX0_squeeze 91 = .ok (.aload_n 0, 1) := by decide +kernel
theorem dX0_squeeze_92 : decode cX0_squeeze 92 = .ok (.getfield 58, 3) := by decide +kernel
theorem dX0_squeeze_95 : decode cX0_squeeze 95 = .ok (.invokevirtual 77, 3) := by decide +kernel
theorem dX0_squeeze_98 : decode cX0_squeeze 98 = .ok (.istore_n 1, 1) := by decide +kernel
theorem dX0_squeeze_99 : decode cX0_squeeze 99 = .ok (.aload_n 0, 1) := by decide +kernel
theorem dX0_squeeze_100 : decode cX0_squeeze 100 = .ok (.dup, 1) := by decide +kernel
theorem dX0_squeeze_101 : decode cX0_squeeze 101 = .ok (.getfield 58, 3) := by decide +kernel
theorem dX0_squeeze_104 : decode cX0_squeeze 104 = .ok (.iconst 1, 1) := by decide +kernel
theorem dX0_squeeze_105 : decode cX0_squeeze 105 = .ok (.iadd, 1) := by decide +kernel
theorem dX0_squeeze_106 : decode cX0_squeeze 106 = .ok (.putfield 58, 3) := by decide +kernel
theorem dX0_squeeze_109 : decode cX0_squeeze 109 = .ok (.aload_n 0, 1) := by decide +kernel
theorem dX0_squeeze_110 : decode cX0_squeeze 110 = .ok (.dup, 1) := by decide +kernel
theorem dX0_squeeze_111 : decode cX0_squeeze 111 = .ok (.getfield 61, 3) := by decide +kernel
theorem dX0_squeeze_114 : decode cX0_squeeze 114 = .ok (.iconst 1, 1) := by decide +kernel
theorem dX0_squeeze_115 : decode cX0_squeeze 115 = .ok (.iadd, 1) := by decide +kernel
theorem dX0_squeeze_116 : decode cX0_squeeze 116 = .ok (.putfield 61, 3) := by decide +kernel
theorem dX0_squeeze_119 : decode cX0_squeeze 119 = .ok (.iload_n 1, 1) := by decide +kernel
theorem dX0_squeeze_120 : decode cX0_squeeze 120 = .ok (.ireturn, 1) := by decide +kernel
abbrev cX0_at : ByteArray := prog_1_method_9_code
def yX0_at : MethodName := ⟨RX0, "at", "(I)I"⟩
theorem dX0_at_0 : decode cX0_at 0 = .ok (.iload_n 1, 1) := by decide +kernel
theorem dX0_at_1 : decode cX0_at 1 = .ok (.bipush 8, 2) := by decide +kernel
theorem dX0_at_3 : decode cX0_at 3 = .ok (.irem, 1) := by decide +kernel
theorem dX0_at_4 : decode cX0_at 4 = .ok (.iconst 4, 1) := by decide +kernel
theorem dX0_at_5 : decode cX0_at 5 = .ok (.if_icmp .ge 15, 3) := by decide +kernel
theorem dX0_at_8 : decode cX0_at 8 = .ok (.aload_n 0, 1) := by decide +kernel
theorem dX0_at_9 : decode cX0_at 9 = .ok (.getfield 7, 3) := by decide +kernel
theorem dX0_at_12 : decode cX0_at 12 = .ok (.iload_n 1, 1) := by decide +kernel
theorem dX0_at_13 : decode cX0_at 13 = .ok (.bipush 8, 2) := by decide +kernel
theorem dX0_at_15 : decode cX0_at 15 = .ok (.idiv, 1) := by decide +kernel
theorem dX0_at_16 : decode cX0_at 16 = .ok (.iaload, 1) := by decide +kernel
theorem dX0_at_17 : decode cX0_at 17 = .ok (.goto 12, 3) := by decide +kernel
theorem dX0_at_20 : decode cX0_at 20 = .ok (.aload_n 0, 1) := by decide +kernel
theorem dX0_at_21 : decode cX0_at 21 = .ok (.getfield 13, 3) := by decide +kernel
theorem dX0_at_24 : decode cX0_at 24 = .ok (.iload_n 1, 1) := by decide +kernel
theorem dX0_at_25 : decode cX0_at 25 = .ok (.bipush 8, 2) := by decide +kernel
theorem dX0_at_27 : decode cX0_at 27 = .ok (.idiv, 1) := by decide +kernel
theorem dX0_at_28 : decode cX0_at 28 = .ok (.iaload, 1) := by decide +kernel
theorem dX0_at_29 : decode cX0_at 29 = .ok (.bipush 8, 2) := by decide +kernel
theorem dX0_at_31 : decode cX0_at 31 = .ok (.iload_n 1, 1) := by decide +kernel
theorem dX0_at_32 : decode cX0_at 32 = .ok (.iconst 4, 1) := by decide +kernel
theorem dX0_at_33 : decode cX0_at 33 = .ok (.irem, 1) := by decide +kernel
theorem dX0_at_34 : decode cX0_at 34 = .ok (.imul, 1) := by decide +kernel
theorem dX0_at_35 : decode cX0_at 35 = .ok (.iushr, 1) := by decide +kernel
theorem dX0_at_36 : decode cX0_at 36 = .ok (.sipush 255, 3) := by decide +kernel
theorem dX0_at_39 : decode cX0_at 39 = .ok (.iand, 1) := by decide +kernel
theorem dX0_at_40 : decode cX0_at 40 = .ok (.ireturn, 1) := by decide +kernel
abbrev cX0_lane : ByteArray := prog_1_method_13_code
def yX0_lane : MethodName := ⟨RX0, "lane", "(II)I"⟩
theorem dX0_lane_0 : decode cX0_lane 0 = .ok (.aload_n 0, 1) := by decide +kernel
theorem dX0_lane_1 : decode cX0_lane 1 = .ok (.getfield 67, 3) := by decide +kernel
theorem dX0_lane_4 : decode cX0_lane 4 = .ok (.ifCond .eq 22, 3) := by decide +kernel
theorem dX0_lane_7 : decode cX0_lane 7 = .ok (.iload_n 1, 1) := by decide +kernel
theorem dX0_lane_8 : decode cX0_lane 8 = .ok (.ifCond .lt 18, 3) := by decide +kernel
theorem dX0_lane_11 : decode cX0_lane 11 = .ok (.iload_n 1, 1) := by decide +kernel
theorem dX0_lane_12 : decode cX0_lane 12 = .ok (.bipush 25, 2) := by decide +kernel
theorem dX0_lane_14 : decode cX0_lane 14 = .ok (.if_icmp .ge 12, 3) := by decide +kernel
theorem dX0_lane_17 : decode cX0_lane 17 = .ok (.iload_n 2, 1) := by decide +kernel
theorem dX0_lane_18 : decode cX0_lane 18 = .ok (.ifCond .lt 8, 3) := by decide +kernel
theorem dX0_lane_21 : decode cX0_lane 21 = .ok (.iload_n 2, 1) := by decide +kernel
theorem dX0_lane_22 : decode cX0_lane 22 = .ok (.iconst 1, 1) := by decide +kernel
theorem dX0_lane_23 : decode cX0_lane 23 = .ok (.if_icmp .le 5, 3) := by decide +kernel
theorem dX0_lane_26 : decode cX0_lane 26 = .ok (.iconst 0, 1) := by decide +kernel
theorem dX0_lane_27 : decode cX0_lane 27 = .ok (.ireturn, 1) := by decide +kernel
theorem dX0_lane_28 : decode cX0_lane 28 = .ok (.iload_n 2, 1) := by decide +kernel
theorem dX0_lane_29 : decode cX0_lane 29 = .ok (.ifCond .ne 12, 3) := by decide +kernel
theorem dX0_lane_32 : decode cX0_lane 32 = .ok (.aload_n 0, 1) := by decide +kernel
theorem dX0_lane_33 : decode cX0_lane 33 = .ok (.getfield 7, 3) := by decide +kernel
theorem dX0_lane_36 : decode cX0_lane 36 = .ok (.iload_n 1, 1) := by decide +kernel
theorem dX0_lane_37 : decode cX0_lane 37 = .ok (.iaload, 1) := by decide +kernel
theorem dX0_lane_38 : decode cX0_lane 38 = .ok (.goto 9, 3) := by decide +kernel
theorem dX0_lane_41 : decode cX0_lane 41 = .ok (.aload_n 0, 1) := by decide +kernel
theorem dX0_lane_42 : decode cX0_lane 42 = .ok (.getfield 13, 3) := by decide +kernel
theorem dX0_lane_45 : decode cX0_lane 45 = .ok (.iload_n 1, 1) := by decide +kernel
theorem dX0_lane_46 : decode cX0_lane 46 = .ok (.iaload, 1) := by decide +kernel
theorem dX0_lane_47 : decode cX0_lane 47 = .ok (.ireturn, 1) := by decide +kernel
abbrev cX0_count : ByteArray := prog_1_method_14_code
def yX0_count : MethodName := ⟨RX0, "count", "()I"⟩
theorem dX0_count_0 : decode cX0_count 0 = .ok (.aload_n 0, 1) := by decide +kernel
theorem dX0_count_1 : decode cX0_count 1 = .ok (.getfield 67, 3) := by decide +kernel
theorem dX0_count_4 : decode cX0_count 4 = .ok (.iconst 2, 1) := by decide +kernel
theorem dX0_count_5 : decode cX0_count 5 = .ok (.if_icmp .ne 11, 3) := by decide +kernel
theorem dX0_count_8 : decode cX0_count 8 = .ok (.aload_n 0, 1) := by decide +kernel
theorem dX0_count_9 : decode cX0_count 9 = .ok (.getfield 61, 3) := by decide +kernel
theorem dX0_count_12 : decode cX0_count 12 = .ok (.ineg, 1) := by decide +kernel
theorem dX0_count_13 : decode cX0_count 13 = .ok (.goto 7, 3) := by decide +kernel
theorem dX0_count_16 : decode cX0_count 16 = .ok (.aload_n 0, 1) := by decide +kernel
theorem dX0_count_17 : decode cX0_count 17 = .ok (.getfield 64, 3) := by decide +kernel
theorem dX0_count_20 : decode cX0_count 20 = .ok (.ireturn, 1) := by decide +kernel
theorem q12 : (Jvm.Cond.initialized "SpongePairs") ∈ lw_all := lw_g (lw_at lw_m0 1 rfl) rfl
theorem q15 : (Jvm.Cond.instantiable "SpongePairs" (15 : Nat)) ∈ lw_all := lw_g (lw_at lw_m0 4 rfl) rfl
theorem q17 : (Jvm.Cond.instanceMethod ({ cls := "SpongePairs", name := "<init>", desc := "()V" } : Jvm.MethodName)) ∈ lw_all := lw_g (lw_at lw_m0 6 rfl) rfl
theorem q18 : (Jvm.Cond.code ({ cls := "SpongePairs", name := "<init>", desc := "()V" } : Jvm.MethodName) prog_1_method_1_code (1 : Nat) (Option.none : Option Jvm.ClassFile.FieldType)) ∈ lw_all := lw_g (lw_at lw_m0 7 rfl) rfl
theorem q19 : (Jvm.Cond.methodLink "SpongePairs" (1 : Nat) ({ cls := "java/lang/Object", name := "<init>", desc := "()V" } : Jvm.MethodName)) ∈ lw_all := lw_g (lw_at lw_m0 8 rfl) rfl
theorem q22 : (Jvm.Cond.fieldLink "SpongePairs" (7 : Nat) "SpongePairs" "lo" "[I") ∈ lw_all := lw_g (lw_at lw_m0 11 rfl) rfl
theorem q23 : (Jvm.Cond.fieldLink "SpongePairs" (13 : Nat) "SpongePairs" "hi" "[I") ∈ lw_all := lw_g (lw_at lw_m0 12 rfl) rfl
theorem q24 : (Jvm.Cond.fieldLink "SpongePairs" (16 : Nat) "SpongePairs" "rcLo" "[I") ∈ lw_all := lw_g (lw_at lw_m0 13 rfl) rfl
theorem q25 : (Jvm.Cond.fieldLink "SpongePairs" (19 : Nat) "SpongePairs" "rcHi" "[I") ∈ lw_all := lw_g (lw_at lw_m0 14 rfl) rfl
theorem q26 : (Jvm.Cond.fieldLink "SpongePairs" (22 : Nat) "SpongePairs" "rot" "[I") ∈ lw_all := lw_g (lw_at lw_m0 15 rfl) rfl
theorem q27 : (Jvm.Cond.fieldLink "SpongePairs" (25 : Nat) "SpongePairs" "tmpLo" "[I") ∈ lw_all := lw_g (lw_at lw_m0 16 rfl) rfl
theorem q28 : (Jvm.Cond.fieldLink "SpongePairs" (28 : Nat) "SpongePairs" "tmpHi" "[I") ∈ lw_all := lw_g (lw_at lw_m0 17 rfl) rfl
theorem q29 : (Jvm.Cond.fieldLink "SpongePairs" (31 : Nat) "SpongePairs" "ready" "Z") ∈ lw_all := lw_g (lw_at lw_m0 18 rfl) rfl
theorem q30 : (Jvm.Cond.fieldLink "SpongePairs" (48 : Nat) "SpongePairs" "rate" "I") ∈ lw_all := lw_g (lw_at lw_m0 19 rfl) rfl
theorem q31 : (Jvm.Cond.fieldLink "SpongePairs" (52 : Nat) "SpongePairs" "suffix" "I") ∈ lw_all := lw_g (lw_at lw_m0 20 rfl) rfl
theorem q32 : (Jvm.Cond.fieldLink "SpongePairs" (58 : Nat) "SpongePairs" "pos" "I") ∈ lw_all := lw_g (lw_at lw_m0 21 rfl) rfl
theorem q33 : (Jvm.Cond.fieldLink "SpongePairs" (67 : Nat) "SpongePairs" "phase" "I") ∈ lw_all := lw_g (lw_at lw_m0 22 rfl) rfl
theorem q34 : (Jvm.Cond.fieldLink "SpongePairs" (55 : Nat) "SpongePairs" "limit" "I") ∈ lw_all := lw_g (lw_at lw_m0 23 rfl) rfl
theorem q35 : (Jvm.Cond.fieldLink "SpongePairs" (61 : Nat) "SpongePairs" "given" "I") ∈ lw_all := lw_g (lw_at lw_m0 24 rfl) rfl
theorem q36 : (Jvm.Cond.fieldLink "SpongePairs" (64 : Nat) "SpongePairs" "taken" "I") ∈ lw_all := lw_g (lw_at lw_m0 25 rfl) rfl
theorem q37 : (Jvm.Cond.laysFinal "SpongePairs" "SpongePairs" "lo" "[I") ∈ lw_all := lw_g (lw_at lw_m0 26 rfl) rfl
theorem q38 : (Jvm.Cond.soleField "SpongePairs" "lo") ∈ lw_all := lw_g (lw_at lw_m0 27 rfl) rfl
theorem q39 : (Jvm.Cond.laysFinal "SpongePairs" "SpongePairs" "hi" "[I") ∈ lw_all := lw_g (lw_at lw_m0 28 rfl) rfl
theorem q40 : (Jvm.Cond.soleField "SpongePairs" "hi") ∈ lw_all := lw_g (lw_at lw_m0 29 rfl) rfl
theorem q41 : (Jvm.Cond.laysFinal "SpongePairs" "SpongePairs" "rcLo" "[I") ∈ lw_all := lw_g (lw_at lw_m0 30 rfl) rfl
theorem q42 : (Jvm.Cond.soleField "SpongePairs" "rcLo") ∈ lw_all := lw_g (lw_at lw_m0 31 rfl) rfl
theorem q43 : (Jvm.Cond.laysFinal "SpongePairs" "SpongePairs" "rcHi" "[I") ∈ lw_all := lw_g (lw_at lw_m0 32 rfl) rfl
theorem q44 : (Jvm.Cond.soleField "SpongePairs" "rcHi") ∈ lw_all := lw_g (lw_at lw_m0 33 rfl) rfl
theorem q45 : (Jvm.Cond.laysFinal "SpongePairs" "SpongePairs" "rot" "[I") ∈ lw_all := lw_g (lw_at lw_m0 34 rfl) rfl
theorem q46 : (Jvm.Cond.soleField "SpongePairs" "rot") ∈ lw_all := lw_g (lw_at lw_m0 35 rfl) rfl
theorem q47 : (Jvm.Cond.laysFinal "SpongePairs" "SpongePairs" "tmpLo" "[I") ∈ lw_all := lw_g (lw_at lw_m0 36 rfl) rfl
theorem q48 : (Jvm.Cond.soleField "SpongePairs" "tmpLo") ∈ lw_all := lw_g (lw_at lw_m0 37 rfl) rfl
theorem q49 : (Jvm.Cond.laysFinal "SpongePairs" "SpongePairs" "tmpHi" "[I") ∈ lw_all := lw_g (lw_at lw_m0 38 rfl) rfl
theorem q50 : (Jvm.Cond.soleField "SpongePairs" "tmpHi") ∈ lw_all := lw_g (lw_at lw_m0 39 rfl) rfl
theorem q51 : (Jvm.Cond.lays "SpongePairs" "SpongePairs" "ready" "Z") ∈ lw_all := lw_g (lw_at lw_m0 40 rfl) rfl
theorem q52 : (Jvm.Cond.soleField "SpongePairs" "ready") ∈ lw_all := lw_g (lw_at lw_m0 41 rfl) rfl
theorem q53 : (Jvm.Cond.lays "SpongePairs" "SpongePairs" "rate" "I") ∈ lw_all := lw_g (lw_at lw_m0 42 rfl) rfl
theorem q54 : (Jvm.Cond.soleField "SpongePairs" "rate") ∈ lw_all := lw_g (lw_at lw_m0 43 rfl) rfl
theorem q55 : (Jvm.Cond.lays "SpongePairs" "SpongePairs" "suffix" "I") ∈ lw_all := lw_g (lw_at lw_m0 44 rfl) rfl
theorem q56 : (Jvm.Cond.soleField "SpongePairs" "suffix") ∈ lw_all := lw_g (lw_at lw_m0 45 rfl) rfl
theorem q57 : (Jvm.Cond.lays "SpongePairs" "SpongePairs" "pos" "I") ∈ lw_all := lw_g (lw_at lw_m0 46 rfl) rfl
theorem q58 : (Jvm.Cond.soleField "SpongePairs" "pos") ∈ lw_all := lw_g (lw_at lw_m0 47 rfl) rfl
theorem q59 : (Jvm.Cond.lays "SpongePairs" "SpongePairs" "phase" "I") ∈ lw_all := lw_g (lw_at lw_m0 48 rfl) rfl
theorem q60 : (Jvm.Cond.soleField "SpongePairs" "phase") ∈ lw_all := lw_g (lw_at lw_m0 49 rfl) rfl
theorem q61 : (Jvm.Cond.lays "SpongePairs" "SpongePairs" "limit" "I") ∈ lw_all := lw_g (lw_at lw_m0 50 rfl) rfl
theorem q62 : (Jvm.Cond.soleField "SpongePairs" "limit") ∈ lw_all := lw_g (lw_at lw_m0 51 rfl) rfl
theorem q63 : (Jvm.Cond.lays "SpongePairs" "SpongePairs" "given" "I") ∈ lw_all := lw_g (lw_at lw_m0 52 rfl) rfl
theorem q64 : (Jvm.Cond.soleField "SpongePairs" "given") ∈ lw_all := lw_g (lw_at lw_m0 53 rfl) rfl
theorem q65 : (Jvm.Cond.lays "SpongePairs" "SpongePairs" "taken" "I") ∈ lw_all := lw_g (lw_at lw_m0 54 rfl) rfl
theorem q66 : (Jvm.Cond.soleField "SpongePairs" "taken") ∈ lw_all := lw_g (lw_at lw_m0 55 rfl) rfl
theorem q67 : (Jvm.Cond.superclass "SpongePairs" "java/lang/Object") ∈ lw_all := lw_g (lw_at lw_m0 56 rfl) rfl
theorem q70 : (Jvm.Cond.instanceMethod ({ cls := "SpongePairs", name := "init", desc := "()V" } : Jvm.MethodName)) ∈ lw_all := lw_g (lw_at lw_m0 59 rfl) rfl
theorem q71 : (Jvm.Cond.selects "SpongePairs" ({ cls := "SpongePairs", name := "init", desc := "()V" } : Jvm.MethodName) ({ cls := "SpongePairs", name := "init", desc := "()V" } : Jvm.MethodName)) ∈ lw_all := lw_g (lw_at lw_m0 60 rfl) rfl
theorem q72 : (Jvm.Cond.code ({ cls := "SpongePairs", name := "init", desc := "()V" } : Jvm.MethodName) prog_1_method_2_code (6 : Nat) (Option.none : Option Jvm.ClassFile.FieldType)) ∈ lw_all := lw_g (lw_at lw_m0 61 rfl) rfl
theorem q74 : (Jvm.Cond.instanceMethod ({ cls := "SpongePairs", name := "begin", desc := "(I)Z" } : Jvm.MethodName)) ∈ lw_all := lw_g (lw_at lw_m0 63 rfl) rfl
theorem q75 : (Jvm.Cond.selects "SpongePairs" ({ cls := "SpongePairs", name := "begin", desc := "(I)Z" } : Jvm.MethodName) ({ cls := "SpongePairs", name := "begin", desc := "(I)Z" } : Jvm.MethodName)) ∈ lw_all := lw_g (lw_at lw_m0 64 rfl) rfl
theorem q76 : (Jvm.Cond.code ({ cls := "SpongePairs", name := "begin", desc := "(I)Z" } : Jvm.MethodName) prog_1_method_10_code (3 : Nat) (Option.some Jvm.ClassFile.FieldType.boolean)) ∈ lw_all := lw_g (lw_at lw_m0 65 rfl) rfl
theorem q78 : (Jvm.Cond.instanceMethod ({ cls := "SpongePairs", name := "absorb", desc := "(I)Z" } : Jvm.MethodName)) ∈ lw_all := lw_g (lw_at lw_m0 67 rfl) rfl
theorem q79 : (Jvm.Cond.selects "SpongePairs" ({ cls := "SpongePairs", name := "absorb", desc := "(I)Z" } : Jvm.MethodName) ({ cls := "SpongePairs", name := "absorb", desc := "(I)Z" } : Jvm.MethodName)) ∈ lw_all := lw_g (lw_at lw_m0 68 rfl) rfl
theorem q80 : (Jvm.Cond.code ({ cls := "SpongePairs", name := "absorb", desc := "(I)Z" } : Jvm.MethodName) prog_1_method_11_code (2 : Nat) (Option.some Jvm.ClassFile.FieldType.boolean)) ∈ lw_all := lw_g (lw_at lw_m0 69 rfl) rfl
theorem q81 : (Jvm.Cond.methodLink "SpongePairs" (70 : Nat) ({ cls := "SpongePairs", name := "put", desc := "(II)V" } : Jvm.MethodName)) ∈ lw_all := lw_g (lw_at lw_m0 70 rfl) rfl
theorem q82 : (Jvm.Cond.privateMethod ({ cls := "SpongePairs", name := "put", desc := "(II)V" } : Jvm.MethodName)) ∈ lw_tbl := lw_at lw_m0 71 rfl
theorem q83 : (Jvm.Cond.instanceMethod ({ cls := "SpongePairs", name := "put", desc := "(II)V" } : Jvm.MethodName)) ∈ lw_all := lw_g (lw_at lw_m0 72 rfl) rfl
theorem q84 : (Jvm.Cond.code ({ cls := "SpongePairs", name := "put", desc := "(II)V" } : Jvm.MethodName) prog_1_method_8_code (4 : Nat) (Option.none : Option Jvm.ClassFile.FieldType)) ∈ lw_all := lw_g (lw_at lw_m0 73 rfl) rfl
theorem q85 : (Jvm.Cond.methodLink "SpongePairs" (74 : Nat) ({ cls := "SpongePairs", name := "permute", desc := "()V" } : Jvm.MethodName)) ∈ lw_all := lw_g (lw_at lw_m0 74 rfl) rfl
theorem q86 : (Jvm.Cond.privateMethod ({ cls := "SpongePairs", name := "permute", desc := "()V" } : Jvm.MethodName)) ∈ lw_tbl := lw_at lw_m0 75 rfl
theorem q87 : (Jvm.Cond.instanceMethod ({ cls := "SpongePairs", name := "permute", desc := "()V" } : Jvm.MethodName)) ∈ lw_all := lw_g (lw_at lw_m0 76 rfl) rfl
theorem q88 : (Jvm.Cond.code ({ cls := "SpongePairs", name := "permute", desc := "()V" } : Jvm.MethodName) prog_1_method_7_code (2 : Nat) (Option.none : Option Jvm.ClassFile.FieldType)) ∈ lw_all := lw_g (lw_at lw_m0 77 rfl) rfl
theorem q89 : (Jvm.Cond.methodLink "SpongePairs" (39 : Nat) ({ cls := "SpongePairs", name := "mixColumns", desc := "()V" } : Jvm.MethodName)) ∈ lw_all := lw_g (lw_at lw_m0 78 rfl) rfl
theorem q90 : (Jvm.Cond.privateMethod ({ cls := "SpongePairs", name := "mixColumns", desc := "()V" } : Jvm.MethodName)) ∈ lw_tbl := lw_at lw_m0 79 rfl
theorem q91 : (Jvm.Cond.instanceMethod ({ cls := "SpongePairs", name := "mixColumns", desc := "()V" } : Jvm.MethodName)) ∈ lw_all := lw_g (lw_at lw_m0 80 rfl) rfl
theorem q92 : (Jvm.Cond.code ({ cls := "SpongePairs", name := "mixColumns", desc := "()V" } : Jvm.MethodName) prog_1_method_4_code (4 : Nat) (Option.none : Option Jvm.ClassFile.FieldType)) ∈ lw_all := lw_g (lw_at lw_m0 81 rfl) rfl
theorem q93 : (Jvm.Cond.methodLink "SpongePairs" (35 : Nat) ({ cls := "SpongePairs", name := "turned", desc := "(IIIZ)I" } : Jvm.MethodName)) ∈ lw_all := lw_g (lw_at lw_m0 82 rfl) rfl
theorem q94 : (Jvm.Cond.static ({ cls := "SpongePairs", name := "turned", desc := "(IIIZ)I" } : Jvm.MethodName)) ∈ lw_all := lw_g (lw_at lw_m0 83 rfl) rfl
theorem q95 : (Jvm.Cond.code ({ cls := "SpongePairs", name := "turned", desc := "(IIIZ)I" } : Jvm.MethodName) prog_1_method_3_code (7 : Nat) (Option.some Jvm.ClassFile.FieldType.int)) ∈ lw_all := lw_g (lw_at lw_m0 84 rfl) rfl
theorem q96 : (Jvm.Cond.methodLink "SpongePairs" (42 : Nat) ({ cls := "SpongePairs", name := "move", desc := "()V" } : Jvm.MethodName)) ∈ lw_all := lw_g (lw_at lw_m0 85 rfl) rfl
theorem q97 : (Jvm.Cond.privateMethod ({ cls := "SpongePairs", name := "move", desc := "()V" } : Jvm.MethodName)) ∈ lw_tbl := lw_at lw_m0 86 rfl
theorem q98 : (Jvm.Cond.instanceMethod ({ cls := "SpongePairs", name := "move", desc := "()V" } : Jvm.MethodName)) ∈ lw_all := lw_g (lw_at lw_m0 87 rfl) rfl
theorem q99 : (Jvm.Cond.code ({ cls := "SpongePairs", name := "move", desc := "()V" } : Jvm.MethodName) prog_1_method_5_code (5 : Nat) (Option.none : Option Jvm.ClassFile.FieldType)) ∈ lw_all := lw_g (lw_at lw_m0 88 rfl) rfl
theorem q100 : (Jvm.Cond.methodLink "SpongePairs" (45 : Nat) ({ cls := "SpongePairs", name := "mixRows", desc := "()V" } : Jvm.MethodName)) ∈ lw_all := lw_g (lw_at lw_m0 89 rfl) rfl
theorem q101 : (Jvm.Cond.privateMethod ({ cls := "SpongePairs", name := "mixRows", desc := "()V" } : Jvm.MethodName)) ∈ lw_tbl := lw_at lw_m0 90 rfl
theorem q102 : (Jvm.Cond.instanceMethod ({ cls := "SpongePairs", name := "mixRows", desc := "()V" } : Jvm.MethodName)) ∈ lw_all := lw_g (lw_at lw_m0 91 rfl) rfl
theorem q103 : (Jvm.Cond.code ({ cls := "SpongePairs", name := "mixRows", desc := "()V" } : Jvm.MethodName) prog_1_method_6_code (5 : Nat) (Option.none : Option Jvm.ClassFile.FieldType)) ∈ lw_all := lw_g (lw_at lw_m0 92 rfl) rfl
theorem q105 : (Jvm.Cond.instanceMethod ({ cls := "SpongePairs", name := "squeeze", desc := "()I" } : Jvm.MethodName)) ∈ lw_all := lw_g (lw_at lw_m0 94 rfl) rfl
theorem q106 : (Jvm.Cond.selects "SpongePairs" ({ cls := "SpongePairs", name := "squeeze", desc := "()I" } : Jvm.MethodName) ({ cls := "SpongePairs", name := "squeeze", desc := "()I" } : Jvm.MethodName)) ∈ lw_all := lw_g (lw_at lw_m0 95 rfl) rfl
theorem q107 : (Jvm.Cond.code ({ cls := "SpongePairs", name := "squeeze", desc := "()I" } : Jvm.MethodName) prog_1_method_12_code (2 : Nat) (Option.some Jvm.ClassFile.FieldType.int)) ∈ lw_all := lw_g (lw_at lw_m0 96 rfl) rfl
theorem q108 : (Jvm.Cond.methodLink "SpongePairs" (77 : Nat) ({ cls := "SpongePairs", name := "at", desc := "(I)I" } : Jvm.MethodName)) ∈ lw_all := lw_g (lw_at lw_m0 97 rfl) rfl
theorem q109 : (Jvm.Cond.privateMethod ({ cls := "SpongePairs", name := "at", desc := "(I)I" } : Jvm.MethodName)) ∈ lw_tbl := lw_at lw_m0 98 rfl
theorem q110 : (Jvm.Cond.instanceMethod ({ cls := "SpongePairs", name := "at", desc := "(I)I" } : Jvm.MethodName)) ∈ lw_all := lw_g (lw_at lw_m0 99 rfl) rfl
theorem q111 : (Jvm.Cond.code ({ cls := "SpongePairs", name := "at", desc := "(I)I" } : Jvm.MethodName) prog_1_method_9_code (2 : Nat) (Option.some Jvm.ClassFile.FieldType.int)) ∈ lw_all := lw_g (lw_at lw_m0 100 rfl) rfl
theorem q113 : (Jvm.Cond.instanceMethod ({ cls := "SpongePairs", name := "lane", desc := "(II)I" } : Jvm.MethodName)) ∈ lw_all := lw_g (lw_at lw_m0 102 rfl) rfl
theorem q114 : (Jvm.Cond.selects "SpongePairs" ({ cls := "SpongePairs", name := "lane", desc := "(II)I" } : Jvm.MethodName) ({ cls := "SpongePairs", name := "lane", desc := "(II)I" } : Jvm.MethodName)) ∈ lw_all := lw_g (lw_at lw_m0 103 rfl) rfl
theorem q115 : (Jvm.Cond.code ({ cls := "SpongePairs", name := "lane", desc := "(II)I" } : Jvm.MethodName) prog_1_method_13_code (3 : Nat) (Option.some Jvm.ClassFile.FieldType.int)) ∈ lw_all := lw_g (lw_at lw_m0 104 rfl) rfl
theorem q117 : (Jvm.Cond.instanceMethod ({ cls := "SpongePairs", name := "count", desc := "()I" } : Jvm.MethodName)) ∈ lw_all := lw_g (lw_at lw_m0 106 rfl) rfl
theorem q118 : (Jvm.Cond.selects "SpongePairs" ({ cls := "SpongePairs", name := "count", desc := "()I" } : Jvm.MethodName) ({ cls := "SpongePairs", name := "count", desc := "()I" } : Jvm.MethodName)) ∈ lw_all := lw_g (lw_at lw_m0 107 rfl) rfl
theorem q119 : (Jvm.Cond.code ({ cls := "SpongePairs", name := "count", desc := "()I" } : Jvm.MethodName) prog_1_method_14_code (1 : Nat) (Option.some Jvm.ClassFile.FieldType.int)) ∈ lw_all := lw_g (lw_at lw_m0 108 rfl) rfl
theorem in_X0 : ∀ w ∈ wsX00, w ∈ lw_all := lw_in wsX00 [37, 39, 41, 43, 45, 47, 49, 51, 53, 55, 57, 59, 61, 63, 65] (by decide +kernel) (by decide +kernel)
end
section
/-! SpongePairsModel -/
set_option maxRecDepth 100000
def RX1 : String := "SpongePairsModel"
def TX1 : u_T := fun k => match k with
  | 0 => ("SpongePairsModel", "isReady", "Z", false)
  | 1 => ("SpongePairsModel", "isBegun", "Z", false)
  | 2 => ("SpongePairsModel", "way", "I", false)
  | 3 => ("SpongePairsModel", "place", "I", false)
  | 4 => ("SpongePairsModel", "taken", "I", false)
  | 5 => ("SpongePairsModel", "come", "I", false)
  | 6 => ("SpongePairsModel", "state", "[J", true)
  | 7 => ("SpongePairsModel", "other", "[J", true)
  | _ => ("SpongePairsModel", "sums", "[J", true)
def tyX1 : Nat → FieldType := fun k => match k with
  | 0 => .boolean
  | 1 => .boolean
  | 2 => .int
  | 3 => .int
  | 4 => .int
  | 5 => .int
  | 6 => .array .long
  | 7 => .array .long
  | _ => .array .long
abbrev wsX10 : List Cond := u_ws RX1 TX1 9
theorem nmX1 : ∀ a, a < 9 → ∀ b, b < 9 → a ≠ b → (TX1 a).2.1 ≠ (TX1 b).2.1 := by decide +kernel
theorem tyX1_ok : ∀ k, k < 9 → parseFieldDescriptor (TX1 k).2.2.1 = some (tyX1 k) := by decide +kernel
abbrev cX1_init : ByteArray := prog_3_method_1_code
def yX1_init : MethodName := ⟨RX1, "<init>", "()V"⟩
theorem dX1_init_0 : decode cX1_init 0 = .ok (.aload_n 0, 1) := by decide +kernel
theorem dX1_init_1 : decode cX1_init 1 = .ok (.invokespecial 1, 3) := by decide +kernel
theorem dX1_init_4 : decode cX1_init 4 = .ok (.aload_n 0, 1) := by decide +kernel
theorem dX1_init_5 : decode cX1_init 5 = .ok (.bipush 25, 2) := by decide +kernel
theorem dX1_init_7 : decode cX1_init 7 = .ok (.newarray .long, 2) := by decide +kernel
theorem dX1_init_9 : decode cX1_init 9 = .ok (.putfield 7, 3) := by decide +kernel
theorem dX1_init_12 : decode cX1_init 12 = .ok (.aload_n 0, 1) := by decide +kernel
theorem dX1_init_13 : decode cX1_init 13 = .ok (.bipush 25, 2) := by decide +kernel
theorem dX1_init_15 : decode cX1_init 15 = .ok (.newarray .long, 2) := by decide +kernel
theorem dX1_init_17 : decode cX1_init 17 = .ok (.putfield 13, 3) := by decide +kernel
theorem dX1_init_20 : decode cX1_init 20 = .ok (.aload_n 0, 1) := by decide +kernel
theorem dX1_init_21 : decode cX1_init 21 = .ok (.iconst 5, 1) := by decide +kernel
theorem dX1_init_22 : decode cX1_init 22 = .ok (.newarray .long, 2) := by decide +kernel
theorem dX1_init_24 : decode cX1_init 24 = .ok (.putfield 16, 3) := by decide +kernel
theorem dX1_init_27 : decode cX1_init 27 = .ok (.return_, 1) := by decide +kernel
abbrev cX1_init_2 : ByteArray := prog_3_method_2_code
def yX1_init_2 : MethodName := ⟨RX1, "init", "()V"⟩
theorem dX1_init_2_0 : decode cX1_init_2 0 = .ok (.aload_n 0, 1) := by decide +kernel
theorem dX1_init_2_1 : decode cX1_init_2 1 = .ok (.iconst 1, 1) := by decide +kernel
theorem dX1_init_2_2 : decode cX1_init_2 2 = .ok (.putfield 19, 3) := by decide +kernel
theorem dX1_init_2_5 : decode cX1_init_2 5 = .ok (.return_, 1) := by decide +kernel
abbrev cX1_begin : ByteArray := prog_3_method_4_code
def yX1_begin : MethodName := ⟨RX1, "begin", "(I)Z"⟩
theorem dX1_begin_0 : decode cX1_begin 0 = .ok (.aload_n 0, 1) := by decide +kernel
theorem dX1_begin_1 : decode cX1_begin 1 = .ok (.getfield 19, 3) := by decide +kernel
theorem dX1_begin_4 : decode cX1_begin 4 = .ok (.ifCond .eq 12, 3) := by decide +kernel
theorem dX1_begin_7 : decode cX1_begin 7 = .ok (.iload_n 1, 1) := by decide +kernel
theorem dX1_begin_8 : decode cX1_begin 8 = .ok (.ifCond .lt 8, 3) := by decide +kernel
theorem dX1_begin_11 : decode cX1_begin 11 = .ok (.iload_n 1, 1) := by decide +kernel
theorem dX1_begin_12 : decode cX1_begin 12 = .ok (.iconst 1, 1) := by decide +kernel
theorem dX1_begin_13 : decode cX1_begin 13 = .ok (.if_icmp .le 5, 3) := by decide +kernel
theorem dX1_begin_16 : decode cX1_begin 16 = .ok (.iconst 0, 1) := by decide +kernel
theorem dX1_begin_17 : decode cX1_begin 17 = .ok (.ireturn, 1) := by decide +kernel
theorem dX1_begin_18 : decode cX1_begin 18 = .ok (.aload_n 0, 1) := by decide +kernel
theorem dX1_begin_19 : decode cX1_begin 19 = .ok (.iconst 1, 1) := by decide +kernel
theorem dX1_begin_20 : decode cX1_begin 20 = .ok (.putfield 23, 3) := by decide +kernel
theorem dX1_begin_23 : decode cX1_begin 23 = .ok (.aload_n 0, 1) := by decide +kernel
theorem dX1_begin_24 : decode cX1_begin 24 = .ok (.iload_n 1, 1) := by decide +kernel
theorem dX1_begin_25 : decode cX1_begin 25 = .ok (.putfield 26, 3) := by decide +kernel
theorem dX1_begin_28 : decode cX1_begin 28 = .ok (.aload_n 0, 1) := by decide +kernel
theorem dX1_begin_29 : decode cX1_begin 29 = .ok (.iconst 0, 1) := by decide +kernel
theorem dX1_begin_30 : decode cX1_begin 30 = .ok (.putfield 30, 3) := by decide +kernel
theorem dX1_begin_33 : decode cX1_begin 33 = .ok (.aload_n 0, 1) := by decide +kernel
theorem dX1_begin_34 : decode cX1_begin 34 = .ok (.iconst 0, 1) := by decide +kernel
theorem dX1_begin_35 : decode cX1_begin 35 = .ok (.putfield 33, 3) := by decide +kernel
theorem dX1_begin_38 : decode cX1_begin 38 = .ok (.aload_n 0, 1) := by decide +kernel
theorem dX1_begin_39 : decode cX1_begin 39 = .ok (.iconst 0, 1) := by decide +kernel
theorem dX1_begin_40 : decode cX1_begin 40 = .ok (.putfield 36, 3) := by decide +kernel
theorem dX1_begin_43 : decode cX1_begin 43 = .ok (.iconst 0, 1) := by decide +kernel
theorem dX1_begin_44 : decode cX1_begin 44 = .ok (.istore_n 2, 1) := by decide +kernel
theorem dX1_begin_45 : decode cX1_begin 45 = .ok (.iload_n 2, 1) := by decide +kernel
theorem dX1_begin_46 : decode cX1_begin 46 = .ok (.bipush 25, 2) := by decide +kernel
theorem dX1_begin_48 : decode cX1_begin 48 = .ok (.if_icmp .ge 16, 3) := by decide +kernel
theorem dX1_begin_51 : decode cX1_begin 51 = .ok (.aload_n 0, 1) := by decide +kernel
theorem dX1_begin_52 : decode cX1_begin 52 = .ok (.getfield 7, 3) := by decide +kernel
theorem dX1_begin_55 : decode cX1_begin 55 = .ok (.iload_n 2, 1) := by decide +kernel
theorem dX1_begin_56 : decode cX1_begin 56 = .ok (.lconst 0, 1) := by decide +kernel
theorem dX1_begin_57 : decode cX1_begin 57 = .ok (.lastore, 1) := by decide +kernel
theorem dX1_begin_58 : decode cX1_begin 58 = .ok (.iinc 2 1, 3) := by decide +kernel
theorem dX1_begin_61 : decode cX1_begin 61 = .ok (.goto (-16), 3) := by decide +kernel
theorem dX1_begin_64 : decode cX1_begin 64 = .ok (.iconst 1, 1) := by decide +kernel
theorem dX1_begin_65 : decode cX1_begin 65 = .ok (.ireturn, 1) := by decide +kernel
abbrev cX1_absorb : ByteArray := prog_3_method_11_code
def yX1_absorb : MethodName := ⟨RX1, "absorb", "(I)Z"⟩
theorem dX1_absorb_0 : decode cX1_absorb 0 = .ok (.aload_n 0, 1) := by decide +kernel
theorem dX1_absorb_1 : decode cX1_absorb 1 = .ok (.getfield 23, 3) := by decide +kernel
theorem dX1_absorb_4 : decode cX1_absorb 4 = .ok (.ifCond .eq 21, 3) := by decide +kernel
theorem dX1_absorb_7 : decode cX1_absorb 7 = .ok (.aload_n 0, 1) := by decide +kernel
theorem dX1_absorb_8 : decode cX1_absorb 8 = .ok (.getfield 36, 3) := by decide +kernel
theorem dX1_absorb_11 : decode cX1_absorb 11 = .ok (.ifCond .gt 14, 3) := by decide +kernel
theorem dX1_absorb_14 : decode cX1_absorb 14 = .ok (.iload_n 1, 1) := by decide +kernel
theorem dX1_absorb_15 : decode cX1_absorb 15 = .ok (.ifCond .lt 10, 3) := by decide +kernel
theorem dX1_absorb_18 : decode cX1_absorb 18 = .ok (.iload_n 1, 1) := by decide +kernel
theorem dX1_absorb_19 : decode cX1_absorb 19 = .ok (.sipush 255, 3) := by decide +kernel
theorem dX1_absorb_22 : decode cX1_absorb 22 = .ok (.if_icmp .le 5, 3) := by decide +kernel
theorem dX1_absorb_25 : decode cX1_absorb 25 = .ok (.iconst 0, 1) := by decide +kernel
theorem dX1_absorb_26 : decode cX1_absorb 26 = .ok (.ireturn, 1) := by decide +kernel
theorem dX1_absorb_27 : decode cX1_absorb 27 = .ok (.aload_n 0, 1) := by decide +kernel
theorem dX1_absorb_28 : decode cX1_absorb 28 = .ok (.iload_n 1, 1) := by decide +kernel
theorem dX1_absorb_29 : decode cX1_absorb 29 = .ok (.aload_n 0, 1) := by decide +kernel
theorem dX1_absorb_30 : decode cX1_absorb 30 = .ok (.getfield 30, 3) := by decide +kernel
theorem dX1_absorb_33 : decode cX1_absorb 33 = .ok (.invokevirtual 54, 3) := by decide +kernel
theorem dX1_absorb_36 : decode cX1_absorb 36 = .ok (.aload_n 0, 1) := by decide +kernel
theorem dX1_absorb_37 : decode cX1_absorb 37 = .ok (.dup, 1) := by decide +kernel
theorem dX1_absorb_38 : decode cX1_absorb 38 = .ok (.getfield 30, 3) := by decide +kernel
theorem dX1_absorb_41 : decode cX1_absorb 41 = .ok (.iconst 1, 1) := by decide +kernel
theorem dX1_absorb_42 : decode cX1_absorb 42 = .ok (.iadd, 1) := by decide +kernel
theorem dX1_absorb_43 : decode cX1_absorb 43 = .ok (.putfield 30, 3) := by decide +kernel
theorem dX1_absorb_46 : decode cX1_absorb 46 = .ok (.aload_n 0, 1) := by decide +kernel
theorem dX1_absorb_47 : decode cX1_absorb 47 = .ok (.dup, 1) := by decide +kernel
theorem dX1_absorb_48 : decode cX1_absorb 48 = .ok (.getfield 33, 3) := by decide +kernel
theorem dX1_absorb_51 : decode cX1_absorb 51 = .ok (.iconst 1, 1) := by decide +kernel
theorem dX1_absorb_52 : decode cX1_absorb 52 = .ok (.iadd, 1) := by decide +kernel
theorem dX1_absorb_53 : decode cX1_absorb 53 = .ok (.putfield 33, 3) := by decide +kernel
theorem dX1_absorb_56 : decode cX1_absorb 56 = .ok (.aload_n 0, 1) := by decide +kernel
theorem dX1_absorb_57 : decode cX1_absorb 57 = .ok (.getfield 30, 3) := by decide +kernel
theorem dX1_absorb_60 : decode cX1_absorb 60 = .ok (.aload_n 0, 1) := by decide +kernel
theorem dX1_absorb_61 : decode cX1_absorb 61 = .ok (.getfield 26, 3) := by decide +kernel
theorem dX1_absorb_64 : decode cX1_absorb 64 = .ok (.invokestatic 58, 3) := by decide +kernel
theorem dX1_absorb_67 : decode cX1_absorb 67 = .ok (.if_icmp .ne 12, 3) := by decide +kernel
theorem dX1_absorb_70 : decode cX1_absorb 70 = .ok (.aload_n 0, 1) := by decide +kernel
theorem dX1_absorb_71 : decode cX1_absorb 71 = .ok (.invokevirtual 62, 3) := by decide +kernel
theorem dX1_absorb_74 : decode cX1_absorb 74 = .ok (.aload_n 0, 1) := by decide +kernel
theorem dX1_absorb_75 : decode cX1_absorb 75 = .ok (.iconst 0, 1) := by decide +kernel
theorem dX1_absorb_76 : decode cX1_absorb 76 = .ok (.putfield 30, 3) := by decide +kernel
theorem dX1_absorb_79 : decode cX1_absorb 79 = .ok (.iconst 1, 1) := by decide +kernel
theorem dX1_absorb_80 : decode cX1_absorb 80 = .ok (.ireturn, 1) := by decide +kernel
abbrev cX1_put : ByteArray := prog_3_method_10_code
def yX1_put : MethodName := ⟨RX1, "put", "(II)V"⟩
theorem dX1_put_0 : decode cX1_put 0 = .ok (.aload_n 0, 1) := by decide +kernel
theorem dX1_put_1 : decode cX1_put 1 = .ok (.getfield 7, 3) := by decide +kernel
theorem dX1_put_4 : decode cX1_put 4 = .ok (.iload_n 2, 1) := by decide +kernel
theorem dX1_put_5 : decode cX1_put 5 = .ok (.bipush 8, 2) := by decide +kernel
theorem dX1_put_7 : decode cX1_put 7 = .ok (.idiv, 1) := by decide +kernel
theorem dX1_put_8 : decode cX1_put 8 = .ok (.aload_n 0, 1) := by decide +kernel
theorem dX1_put_9 : decode cX1_put 9 = .ok (.getfield 7, 3) := by decide +kernel
theorem dX1_put_12 : decode cX1_put 12 = .ok (.iload_n 2, 1) := by decide +kernel
theorem dX1_put_13 : decode cX1_put 13 = .ok (.bipush 8, 2) := by decide +kernel
theorem dX1_put_15 : decode cX1_put 15 = .ok (.idiv, 1) := by decide +kernel
theorem dX1_put_16 : decode cX1_put 16 = .ok (.laload, 1) := by decide +kernel
theorem dX1_put_17 : decode cX1_put 17 = .ok (.iload_n 1, 1) := by decide +kernel
theorem dX1_put_18 : decode cX1_put 18 = .ok (.i2l, 1) := by decide +kernel
theorem dX1_put_19 : decode cX1_put 19 = .ok (.bipush 8, 2) := by decide +kernel
theorem dX1_put_21 : decode cX1_put 21 = .ok (.iload_n 2, 1) := by decide +kernel
theorem dX1_put_22 : decode cX1_put 22 = .ok (.bipush 8, 2) := by decide +kernel
theorem dX1_put_24 : decode cX1_put 24 = .ok (.irem, 1) := by decide +kernel
theorem dX1_put_25 : decode cX1_put 25 = .ok (.imul, 1) := by decide +kernel
theorem dX1_put_26 : decode cX1_put 26 = .ok (.lshl, 1) := by decide +kernel
theorem dX1_put_27 : decode cX1_put 27 = .ok (.lxor, 1) := by decide +kernel
theorem dX1_put_28 : decode cX1_put 28 = .ok (.lastore, 1) := by decide +kernel
theorem dX1_put_29 : decode cX1_put 29 = .ok (.return_, 1) := by decide +kernel
abbrev cX1_rate : ByteArray := prog_3_method_3_code
def yX1_rate : MethodName := ⟨RX1, "rate", "(I)I"⟩
theorem dX1_rate_0 : decode cX1_rate 0 = .ok (.iload_n 0, 1) := by decide +kernel
theorem dX1_rate_1 : decode cX1_rate 1 = .ok (.ifCond .ne 9, 3) := by decide +kernel
theorem dX1_rate_4 : decode cX1_rate 4 = .ok (.sipush 136, 3) := by decide +kernel
theorem dX1_rate_7 : decode cX1_rate 7 = .ok (.goto 6, 3) := by decide +kernel
theorem dX1_rate_10 : decode cX1_rate 10 = .ok (.sipush 168, 3) := by decide +kernel
theorem dX1_rate_13 : decode cX1_rate 13 = .ok (.ireturn, 1) := by decide +kernel
abbrev cX1_permute : ByteArray := prog_3_method_9_code
def yX1_permute : MethodName := ⟨RX1, "permute", "()V"⟩
theorem dX1_permute_0 : decode cX1_permute 0 = .ok (.iconst 1, 1) := by decide +kernel
theorem dX1_permute_1 : decode cX1_permute 1 = .ok (.istore_n 1, 1) := by decide +kernel
theorem dX1_permute_2 : decode cX1_permute 2 = .ok (.iconst 0, 1) := by decide +kernel
theorem dX1_permute_3 : decode cX1_permute 3 = .ok (.istore_n 2, 1) := by decide +kernel
theorem dX1_permute_4 : decode cX1_permute 4 = .ok (.iload_n 2, 1) := by decide +kernel
theorem dX1_permute_5 : decode cX1_permute 5 = .ok (.bipush 24, 2) := by decide +kernel
theorem dX1_permute_7 : decode cX1_permute 7 = .ok (.if_icmp .ge 85, 3) := by decide +kernel
theorem dX1_permute_10 : decode cX1_permute 10 = .ok (.aload_n 0, 1) := by decide +kernel
theorem dX1_permute_11 : decode cX1_permute 11 = .ok (.invokevirtual 45, 3) := by decide +kernel
theorem dX1_permute_14 : decode cX1_permute 14 = .ok (.aload_n 0, 1) := by decide +kernel
theorem dX1_permute_15 : decode cX1_permute 15 = .ok (.invokevirtual 48, 3) := by decide +kernel
theorem dX1_permute_18 : decode cX1_permute 18 = .ok (.aload_n 0, 1) := by decide +kernel
theorem dX1_permute_19 : decode cX1_permute 19 = .ok (.invokevirtual 51, 3) := by decide +kernel
theorem dX1_permute_22 : decode cX1_permute 22 = .ok (.iconst 1, 1) := by decide +kernel
theorem dX1_permute_23 : decode cX1_permute 23 = .ok (.istore_n 3, 1) := by decide +kernel
theorem dX1_permute_24 : decode cX1_permute 24 = .ok (.iconst 0, 1) := by decide +kernel
theorem dX1_permute_25 : decode cX1_permute 25 = .ok (.istore 4, 2) := by decide +kernel
theorem dX1_permute_27 : decode cX1_permute 27 = .ok (.iload 4, 2) := by decide +kernel
theorem dX1_permute_29 : decode cX1_permute 29 = .ok (.bipush 7, 2) := by decide +kernel
theorem dX1_permute_31 : decode cX1_permute 31 = .ok (.if_icmp .ge 55, 3) := by decide +kernel
theorem dX1_permute_34 : decode cX1_permute 34 = .ok (.aload_n 0, 1) := by decide +kernel
theorem dX1_permute_35 : decode cX1_permute 35 = .ok (.getfield 7, 3) := by decide +kernel
theorem dX1_permute_38 : decode cX1_permute 38 = .ok (.iconst 0, 1) := by decide +kernel
theorem dX1_permute_39 : decode cX1_permute 39 = .ok (.aload_n 0, 1) := by decide +kernel
theorem dX1_permute_40 : decode cX1_permute 40 = .ok (.getfield 7, 3) := by decide +kernel
theorem dX1_permute_43 : decode cX1_permute 43 = .ok (.iconst 0, 1) := by decide +kernel
theorem dX1_permute_44 : decode cX1_permute 44 = .ok (.laload, 1) := by decide +kernel
theorem dX1_permute_45 : decode cX1_permute 45 = .ok (.iload_n 1, 1) := by decide +kernel
theorem dX1_permute_46 : decode cX1_permute 46 = .ok (.iconst 1, 1) := by decide +kernel
theorem dX1_permute_47 : decode cX1_permute 47 = .ok (.iand, 1) := by decide +kernel
theorem dX1_permute_48 : decode cX1_permute 48 = .ok (.i2l, 1) := by decide +kernel
theorem dX1_permute_49 : decode cX1_permute 49 = .ok (.iload_n 3, 1) := by decide +kernel
theorem dX1_permute_50 : decode cX1_permute 50 = .ok (.iconst 1, 1) := by decide +kernel
theorem dX1_permute_51 : decode cX1_permute 51 = .ok (.isub, 1) := by decide +kernel
theorem dX1_permute_52 : decode cX1_permute 52 = .ok (.lshl, 1) := by decide +kernel
theorem dX1_permute_53 : decode cX1_permute 53 = .ok (.lxor, 1) := by decide +kernel
theorem dX1_permute_54 : decode cX1_permute 54 = .ok (.lastore, 1) := by decide +kernel
theorem dX1_permute_55 : decode cX1_permute 55 = .ok (.iconst 2, 1) := by decide +kernel
theorem dX1_permute_56 : decode cX1_permute 56 = .ok (.iload_n 3, 1) := by decide +kernel
theorem dX1_permute_57 : decode cX1_permute 57 = .ok (.imul, 1) := by decide +kernel
theorem dX1_permute_58 : decode cX1_permute 58 = .ok (.istore_n 3, 1) := by decide +kernel
theorem dX1_permute_59 : decode cX1_permute 59 = .ok (.iconst 2, 1) := by decide +kernel
theorem dX1_permute_60 : decode cX1_permute 60 = .ok (.iload_n 1, 1) := by decide +kernel
theorem dX1_permute_61 : decode cX1_permute 61 = .ok (.imul, 1) := by decide +kernel
theorem dX1_permute_62 : decode cX1_permute 62 = .ok (.istore_n 1, 1) := by decide +kernel
theorem dX1_permute_63 : decode cX1_permute 63 = .ok (.iload_n 1, 1) := by decide +kernel
theorem dX1_permute_64 : decode cX1_permute 64 = .ok (.sipush 255, 3) := by decide +kernel
theorem dX1_permute_67 : decode cX1_permute 67 = .ok (.if_icmp .le 11, 3) := by decide +kernel
theorem dX1_permute_70 : decode cX1_permute 70 = .ok (.iload_n 1, 1) := by decide +kernel
theorem dX1_permute_71 : decode cX1_permute 71 = .ok (.sipush 369, 3) := by decide +kernel
theorem dX1_permute_74 : decode cX1_permute 74 = .ok (.ixor, 1) := by decide +kernel
theorem dX1_permute_75 : decode cX1_permute 75 = .ok (.goto 4, 3) := by decide +kernel
theorem dX1_permute_78 : decode cX1_permute 78 = .ok (.iload_n 1, 1) := by decide +kernel
theorem dX1_permute_79 : decode cX1_permute 79 = .ok (.istore_n 1, 1) := by decide +kernel
theorem dX1_permute_80 : decode cX1_permute 80 = .ok (.iinc 4 1, 3) := by decide +kernel
theorem dX1_permute_83 : decode cX1_permute 83 = .ok (.goto (-56), 3) := by decide +kernel
theorem dX1_permute_86 : decode cX1_permute 86 = .ok (.iinc 2 1, 3) := by decide +kernel
theorem dX1_permute_89 : decode cX1_permute 89 = .ok (.goto (-85), 3) := by decide +kernel
theorem dX1_permute_92 : decode cX1_permute 92 = .ok (.return_, 1) := by decide +kernel
abbrev cX1_mix : ByteArray := prog_3_method_6_code
def yX1_mix : MethodName := ⟨RX1, "mix", "()V"⟩
theorem dX1_mix_0 : decode cX1_mix 0 = .ok (.iconst 0, 1) := by decide +kernel
theorem dX1_mix_1 : decode cX1_mix 1 = .ok (.istore_n 1, 1) := by decide +kernel
theorem dX1_mix_2 : decode cX1_mix 2 = .ok (.iload_n 1, 1) := by decide +kernel
theorem dX1_mix_3 : decode cX1_mix 3 = .ok (.iconst 5, 1) := by decide +kernel
theorem dX1_mix_4 : decode cX1_mix 4 = .ok (.if_icmp .ge 60, 3) := by decide +kernel
theorem dX1_mix_7 : decode cX1_mix 7 = .ok (.aload_n 0, 1) := by decide +kernel
theorem dX1_mix_8 : decode cX1_mix 8 = .ok (.getfield 16, 3) := by decide +kernel
theorem dX1_mix_11 : decode cX1_mix 11 = .ok (.iload_n 1, 1) := by decide +kernel
theorem dX1_mix_12 : decode cX1_mix 12 = .ok (.aload_n 0, 1) := by decide +kernel
theorem dX1_mix_13 : decode cX1_mix 13 = .ok (.getfield 7, 3) := by decide +kernel
theorem dX1_mix_16 : decode cX1_mix 16 = .ok (.iload_n 1, 1) := by decide +kernel
theorem dX1_mix_17 : decode cX1_mix 17 = .ok (.laload, 1) := by decide +kernel
theorem dX1_mix_18 : decode cX1_mix 18 = .ok (.aload_n 0, 1) := by decide +kernel
theorem dX1_mix_19 : decode cX1_mix 19 = .ok (.getfield 7, 3) := by decide +kernel
theorem dX1_mix_22 : decode cX1_mix 22 = .ok (.iload_n 1, 1) := by decide +kernel
theorem dX1_mix_23 : decode cX1_mix 23 = .ok (.iconst 5, 1) := by decide +kernel
theorem dX1_mix_24 : decode cX1_mix 24 = .ok (.iadd, 1) := by decide +kernel
theorem dX1_mix_25 : decode cX1_mix 25 = .ok (.laload, 1) := by decide +kernel
theorem dX1_mix_26 : decode cX1_mix 26 = .ok (.lxor, 1) := by decide +kernel
theorem dX1_mix_27 : decode cX1_mix 27 = .ok (.aload_n 0, 1) := by decide +kernel
theorem dX1_mix_28 : decode cX1_mix 28 = .ok (.getfield 7, 3) := by decide +kernel
theorem dX1_mix_31 : decode cX1_mix 31 = .ok (.iload_n 1, 1) := by decide +kernel
theorem dX1_mix_32 : decode cX1_mix 32 = .ok (.bipush 10, 2) := by decide +kernel
theorem dX1_mix_34 : decode cX1_mix 34 = .ok (.iadd, 1) := by decide +kernel
theorem dX1_mix_35 : decode cX1_mix 35 = .ok (.laload, 1) := by decide +kernel
theorem dX1_mix_36 : decode cX1_mix 36 = .ok (.lxor, 1) := by decide +kernel
theorem dX1_mix_37 : decode cX1_mix 37 = .ok (.aload_n 0, 1) := by decide +kernel
theorem dX1_mix_38 : decode cX1_mix 38 = .ok (.getfield 7, 3) := by decide +kernel
theorem dX1_mix_41 : decode cX1_mix 41 = .ok (.iload_n 1, 1) := by decide +kernel
theorem dX1_mix_42 : decode cX1_mix 42 = .ok (.bipush 15, 2) := by decide +kernel
theorem dX1_mix_44 : decode cX1_mix 44 = .ok (.iadd, 1) := by decide +kernel
theorem dX1_mix_45 : decode cX1_mix 45 = .ok (.laload, 1) := by decide +kernel
theorem dX1_mix_46 : decode cX1_mix 46 = .ok (.lxor, 1) := by decide +kernel
theorem dX1_mix_47 : decode cX1_mix 47 = .ok (.aload_n 0, 1) := by decide +kernel
theorem dX1_mix_48 : decode cX1_mix 48 = .ok (.getfield 7, 3) := by decide +kernel
theorem dX1_mix_51 : decode cX1_mix 51 = .ok (.iload_n 1, 1) := by decide +kernel
theorem dX1_mix_52 : decode cX1_mix 52 = .ok (.bipush 20, 2) := by decide +kernel
theorem dX1_mix_54 : decode cX1_mix 54 = .ok (.iadd, 1) := by decide +kernel
theorem dX1_mix_55 : decode cX1_mix 55 = .ok (.laload, 1) := by decide +kernel
theorem dX1_mix_56 : decode cX1_mix 56 = .ok (.lxor, 1) := by decide +kernel
theorem dX1_mix_57 : decode cX1_mix 57 = .ok (.lastore, 1) := by decide +kernel
theorem dX1_mix_58 : decode cX1_mix 58 = .ok (.iinc 1 1, 3) := by decide +kernel
theorem dX1_mix_61 : decode cX1_mix 61 = .ok (.goto (-59), 3) := by decide +kernel
theorem dX1_mix_64 : decode cX1_mix 64 = .ok (.iconst 0, 1) := by decide +kernel
theorem dX1_mix_65 : decode cX1_mix 65 = .ok (.istore_n 1, 1) := by decide +kernel
theorem dX1_mix_66 : decode cX1_mix 66 = .ok (.iload_n 1, 1) := by decide +kernel
theorem dX1_mix_67 : decode cX1_mix 67 = .ok (.bipush 25, 2) := by decide +kernel
theorem dX1_mix_69 : decode cX1_mix 69 = .ok (.if_icmp .ge 47, 3) := by decide +kernel
theorem dX1_mix_72 : decode cX1_mix 72 = .ok (.aload_n 0, 1) := by decide +kernel
theorem dX1_mix_73 : decode cX1_mix 73 = .ok (.getfield 7, 3) := by decide +kernel
theorem dX1_mix_76 : decode cX1_mix 76 = .ok (.iload_n 1, 1) := by decide +kernel
theorem dX1_mix_77 : decode cX1_mix 77 = .ok (.aload_n 0, 1) := by decide +kernel
theorem dX1_mix_78 : decode cX1_mix 78 = .ok (.getfield 7, 3) := by decide +kernel
theorem dX1_mix_81 : decode cX1_mix 81 = .ok (.iload_n 1, 1) := by decide +kernel
theorem dX1_mix_82 : decode cX1_mix 82 = .ok (.laload, 1) := by decide +kernel
theorem dX1_mix_83 : decode cX1_mix 83 = .ok (.aload_n 0, 1) := by decide +kernel
theorem dX1_mix_84 : decode cX1_mix 84 = .ok (.getfield 16, 3) := by decide +kernel
theorem dX1_mix_87 : decode cX1_mix 87 = .ok (.iload_n 1, 1) := by decide +kernel
theorem dX1_mix_88 : decode cX1_mix 88 = .ok (.iconst 4, 1) := by decide +kernel
theorem dX1_mix_89 : decode cX1_mix 89 = .ok (.iadd, 1) := by decide +kernel
theorem dX1_mix_90 : decode cX1_mix 90 = .ok (.iconst 5, 1) := by decide +kernel
theorem dX1_mix_91 : decode cX1_mix 91 = .ok (.irem, 1) := by decide +kernel
theorem dX1_mix_92 : decode cX1_mix 92 = .ok (.laload, 1) := by decide +kernel
theorem dX1_mix_93 : decode cX1_mix 93 = .ok (.lxor, 1) := by decide +kernel
theorem dX1_mix_94 : decode cX1_mix 94 = .ok (.aload_n 0, 1) := by decide +kernel
theorem dX1_mix_95 : decode cX1_mix 95 = .ok (.getfield 16, 3) := by decide +kernel
theorem dX1_mix_98 : decode cX1_mix 98 = .ok (.iload_n 1, 1) := by decide +kernel
theorem dX1_mix_99 : decode cX1_mix 99 = .ok (.iconst 1, 1) := by decide +kernel
theorem dX1_mix_100 : decode cX1_mix 100 = .ok (.iadd, 1) := by decide +kernel
theorem dX1_mix_101 : decode cX1_mix 101 = .ok (.iconst 5, 1) := by decide +kernel
theorem dX1_mix_102 : decode cX1_mix 102 = .ok (.irem, 1) := by decide +kernel
theorem dX1_mix_103 : decode cX1_mix 103 = .ok (.laload, 1) := by decide +kernel
theorem dX1_mix_104 : decode cX1_mix 104 = .ok (.iconst 1, 1) := by decide +kernel
theorem dX1_mix_105 : decode cX1_mix 105 = .ok (.invokestatic 39, 3) := by decide +kernel
theorem dX1_mix_108 : decode cX1_mix 108 = .ok (.lxor, 1) := by decide +kernel
theorem dX1_mix_109 : decode cX1_mix 109 = .ok (.lastore, 1) := by decide +kernel
theorem dX1_mix_110 : decode cX1_mix 110 = .ok (.iinc 1 1, 3) := by decide +kernel
theorem dX1_mix_113 : decode cX1_mix 113 = .ok (.goto (-47), 3) := by decide +kernel
theorem dX1_mix_116 : decode cX1_mix 116 = .ok (.return_, 1) := by decide +kernel
abbrev cX1_up : ByteArray := prog_3_method_5_code
def yX1_up : MethodName := ⟨RX1, "up", "(JI)J"⟩
theorem dX1_up_0 : decode cX1_up 0 = .ok (.iload_n 2, 1) := by decide +kernel
theorem dX1_up_1 : decode cX1_up 1 = .ok (.ifCond .ne 7, 3) := by decide +kernel
theorem dX1_up_4 : decode cX1_up 4 = .ok (.lload_n 0, 1) := by decide +kernel
theorem dX1_up_5 : decode cX1_up 5 = .ok (.goto 13, 3) := by decide +kernel
theorem dX1_up_8 : decode cX1_up 8 = .ok (.lload_n 0, 1) := by decide +kernel
theorem dX1_up_9 : decode cX1_up 9 = .ok (.iload_n 2, 1) := by decide +kernel
theorem dX1_up_10 : decode cX1_up 10 = .ok (.lshl, 1) := by decide +kernel
theorem dX1_up_11 : decode cX1_up 11 = .ok (.lload_n 0, 1) := by decide +kernel
theorem dX1_up_12 : decode cX1_up 12 = .ok (.bipush 64, 2) := by decide +kernel
theorem dX1_up_14 : decode cX1_up 14 = .ok (.iload_n 2, 1) := by decide +kernel
theorem dX1_up_15 : decode cX1_up 15 = .ok (.isub, 1) := by decide +kernel
theorem dX1_up_16 : decode cX1_up 16 = .ok (.lushr, 1) := by decide +kernel
theorem dX1_up_17 : decode cX1_up 17 = .ok (.lor, 1) := by decide +kernel
theorem dX1_up_18 : decode cX1_up 18 = .ok (.lreturn, 1) := by decide +kernel
abbrev cX1_move : ByteArray := prog_3_method_7_code
def yX1_move : MethodName := ⟨RX1, "move", "()V"⟩
theorem dX1_move_0 : decode cX1_move 0 = .ok (.aload_n 0, 1) := by decide +kernel
theorem dX1_move_1 : decode cX1_move 1 = .ok (.getfield 13, 3) := by decide +kernel
theorem dX1_move_4 : decode cX1_move 4 = .ok (.iconst 0, 1) := by decide +kernel
theorem dX1_move_5 : decode cX1_move 5 = .ok (.aload_n 0, 1) := by decide +kernel
theorem dX1_move_6 : decode cX1_move 6 = .ok (.getfield 7, 3) := by decide +kernel
theorem dX1_move_9 : decode cX1_move 9 = .ok (.iconst 0, 1) := by decide +kernel
theorem dX1_move_10 : decode cX1_move 10 = .ok (.laload, 1) := by decide +kernel
theorem dX1_move_11 : decode cX1_move 11 = .ok (.lastore, 1) := by decide +kernel
theorem dX1_move_12 : decode cX1_move 12 = .ok (.iconst 1, 1) := by decide +kernel
theorem dX1_move_13 : decode cX1_move 13 = .ok (.istore_n 1, 1) := by decide +kernel
theorem dX1_move_14 : decode cX1_move 14 = .ok (.iconst 0, 1) := by decide +kernel
theorem dX1_move_15 : decode cX1_move 15 = .ok (.istore_n 2, 1) := by decide +kernel
theorem dX1_move_16 : decode cX1_move 16 = .ok (.iconst 0, 1) := by decide +kernel
theorem dX1_move_17 : decode cX1_move 17 = .ok (.istore_n 3, 1) := by decide +kernel
theorem dX1_move_18 : decode cX1_move 18 = .ok (.iload_n 3, 1) := by decide +kernel
theorem dX1_move_19 : decode cX1_move 19 = .ok (.bipush 24, 2) := by decide +kernel
theorem dX1_move_21 : decode cX1_move 21 = .ok (.if_icmp .ge 65, 3) := by decide +kernel
theorem dX1_move_24 : decode cX1_move 24 = .ok (.iload_n 3, 1) := by decide +kernel
theorem dX1_move_25 : decode cX1_move 25 = .ok (.iconst 1, 1) := by decide +kernel
theorem dX1_move_26 : decode cX1_move 26 = .ok (.iadd, 1) := by decide +kernel
theorem dX1_move_27 : decode cX1_move 27 = .ok (.iload_n 3, 1) := by decide +kernel
theorem dX1_move_28 : decode cX1_move 28 = .ok (.iconst 2, 1) := by decide +kernel
theorem dX1_move_29 : decode cX1_move 29 = .ok (.iadd, 1) := by decide +kernel
theorem dX1_move_30 : decode cX1_move 30 = .ok (.imul, 1) := by decide +kernel
theorem dX1_move_31 : decode cX1_move 31 = .ok (.iconst 2, 1) := by decide +kernel
theorem dX1_move_32 : decode cX1_move 32 = .ok (.idiv, 1) := by decide +kernel
theorem dX1_move_33 : decode cX1_move 33 = .ok (.bipush 64, 2) := by decide +kernel
theorem dX1_move_35 : decode cX1_move 35 = .ok (.irem, 1) := by decide +kernel
theorem dX1_move_36 : decode cX1_move 36 = .ok (.istore 4, 2) := by decide +kernel
theorem dX1_move_38 : decode cX1_move 38 = .ok (.iconst 2, 1) := by decide +kernel
theorem dX1_move_39 : decode cX1_move 39 = .ok (.iload_n 1, 1) := by decide +kernel
theorem dX1_move_40 : decode cX1_move 40 = .ok (.imul, 1) := by decide +kernel
theorem dX1_move_41 : decode cX1_move 41 = .ok (.iconst 3, 1) := by decide +kernel
theorem dX1_move_42 : decode cX1_move 42 = .ok (.iload_n 2, 1) := by decide +kernel
theorem dX1_move_43 : decode cX1_move 43 = .ok (.imul, 1) := by decide +kernel
theorem dX1_move_44 : decode cX1_move 44 = .ok (.iadd, 1) := by decide +kernel
theorem dX1_move_45 : decode cX1_move 45 = .ok (.iconst 5, 1) := by decide +kernel
theorem dX1_move_46 : decode cX1_move 46 = .ok (.irem, 1) := by decide +kernel
theorem dX1_move_47 : decode cX1_move 47 = .ok (.istore 5, 2) := by decide +kernel
theorem dX1_move_49 : decode cX1_move 49 = .ok (.aload_n 0, 1) := by decide +kernel
theorem dX1_move_50 : decode cX1_move 50 = .ok (.getfield 13, 3) := by decide +kernel
theorem dX1_move_53 : decode cX1_move 53 = .ok (.iload_n 2, 1) := by decide +kernel
theorem dX1_move_54 : decode cX1_move 54 = .ok (.iconst 5, 1) := by decide +kernel
theorem dX1_move_55 : decode cX1_move 55 = .ok (.iload 5, 2) := by decide +kernel
theorem dX1_move_57 : decode cX1_move 57 = .ok (.imul, 1) := by decide +kernel
theorem dX1_move_58 : decode cX1_move 58 = .ok (.iadd, 1) := by decide +kernel
theorem dX1_move_59 : decode cX1_move 59 = .ok (.aload_n 0, 1) := by decide +kernel
theorem dX1_move_60 : decode cX1_move 60 = .ok (.getfield 7, 3) := by decide +kernel
theorem dX1_move_63 : decode cX1_move 63 = .ok (.iload_n 1, 1) := by decide +kernel
theorem dX1_move_64 : decode cX1_move 64 = .ok (.iconst 5, 1) := by decide +kernel
theorem dX1_move_65 : decode cX1_move 65 = .ok (.iload_n 2, 1) := by decide +kernel
theorem dX1_move_66 : decode cX1_move 66 = .ok (.imul, 1) := by decide +kernel
theorem dX1_move_67 : decode cX1_move 67 = .ok (.iadd, 1) := by decide +kernel
theorem dX1_move_68 : decode cX1_move 68 = .ok (.laload, 1) := by decide +kernel
theorem dX1_move_69 : decode cX1_move 69 = .ok (.iload 4, 2) := by decide +kernel
theorem dX1_move_71 : decode cX1_move 71 = .ok (.invokestatic 39, 3) := by decide +kernel
theorem dX1_move_74 : decode cX1_move 74 = .ok (.lastore, 1) := by decide +kernel
theorem dX1_move_75 : decode cX1_move 75 = .ok (.iload_n 2, 1) := by decide +kernel
theorem dX1_move_76 : decode cX1_move 76 = .ok (.istore_n 1, 1) := by decide +kernel
theorem dX1_move_77 : decode cX1_move 77 = .ok (.iload 5, 2) := by decide +kernel
theorem dX1_move_79 : decode cX1_move 79 = .ok (.istore_n 2, 1) := by decide +kernel
theorem dX1_move_80 : decode cX1_move 80 = .ok (.iinc 3 1, 3) := by decide +kernel
theorem dX1_move_83 : decode cX1_move 83 = .ok (.goto (-65), 3) := by decide +kernel
theorem dX1_move_86 : decode cX1_move 86 = .ok (.return_, 1) := by decide +kernel
abbrev cX1_join : ByteArray := prog_3_method_8_code
def yX1_join : MethodName := ⟨RX1, "join", "()V"⟩
theorem dX1_join_0 : decode cX1_join 0 = .ok (.iconst 0, 1) := by decide +kernel
theorem dX1_join_1 : decode cX1_join 1 = .ok (.istore_n 1, 1) := by decide +kernel
theorem dX1_join_2 : decode cX1_join 2 = .ok (.iload_n 1, 1) := by decide +kernel
theorem dX1_join_3 : decode cX1_join 3 = .ok (.bipush 25, 2) := by decide +kernel
theorem dX1_join_5 : decode cX1_join 5 = .ok (.if_icmp .ge 57, 3) := by decide +kernel
theorem dX1_join_8 : decode cX1_join 8 = .ok (.iload_n 1, 1) := by decide +kernel
theorem dX1_join_9 : decode cX1_join 9 = .ok (.iload_n 1, 1) := by decide +kernel
theorem dX1_join_10 : decode cX1_join 10 = .ok (.iconst 5, 1) := by decide +kernel
theorem dX1_join_11 : decode cX1_join 11 = .ok (.irem, 1) := by decide +kernel
theorem dX1_join_12 : decode cX1_join 12 = .ok (.isub, 1) := by decide +kernel
theorem dX1_join_13 : decode cX1_join 13 = .ok (.istore_n 2, 1) := by decide +kernel
theorem dX1_join_14 : decode cX1_join 14 = .ok (.aload_n 0, 1) := by decide +kernel
theorem dX1_join_15 : decode cX1_join 15 = .ok (.getfield 7, 3) := by decide +kernel
theorem dX1_join_18 : decode cX1_join 18 = .ok (.iload_n 1, 1) := by decide +kernel
theorem dX1_join_19 : decode cX1_join 19 = .ok (.aload_n 0, 1) := by decide +kernel
theorem dX1_join_20 : decode cX1_join 20 = .ok (.getfield 13, 3) := by decide +kernel
theorem dX1_join_23 : decode cX1_join 23 = .ok (.iload_n 1, 1) := by decide +kernel
theorem dX1_join_24 : decode cX1_join 24 = .ok (.laload, 1) := by decide +kernel
theorem dX1_join_25 : decode cX1_join 25 = .ok (.aload_n 0, 1) := by decide +kernel
theorem dX1_join_26 : decode cX1_join 26 = .ok (.getfield 13, 3) := by decide +kernel
theorem dX1_join_29 : decode cX1_join 29 = .ok (.iload_n 2, 1) := by decide +kernel
theorem dX1_join_30 : decode cX1_join 30 = .ok (.iload_n 1, 1) := by decide +kernel
theorem dX1_join_31 : decode cX1_join 31 = .ok (.iconst 1, 1) := by decide +kernel
theorem dX1_join_32 : decode cX1_join 32 = .ok (.iadd, 1) := by decide +kernel
theorem dX1_join_33 : decode cX1_join 33 = .ok (.iconst 5, 1) := by decide +kernel
theorem dX1_join_34 : decode cX1_join 34 = .ok (.irem, 1) := by decide +kernel
theorem dX1_join_35 : decode cX1_join 35 = .ok (.iadd, 1) := by decide +kernel
theorem dX1_join_36 : decode cX1_join 36 = .ok (.laload, 1) := by decide +kernel
theorem dX1_join_37 : decode cX1_join 37 = .ok (.ldc2_w 43, 3) := by decide +kernel
theorem dX1_join_40 : decode cX1_join 40 = .ok (.lxor, 1) := by decide +kernel
theorem dX1_join_41 : decode cX1_join 41 = .ok (.aload_n 0, 1) := by decide +kernel
theorem dX1_join_42 : decode cX1_join 42 = .ok (.getfield 13, 3) := by decide +kernel
theorem dX1_join_45 : decode cX1_join 45 = .ok (.iload_n 2, 1) := by decide +kernel
theorem dX1_join_46 : decode cX1_join 46 = .ok (.iload_n 1, 1) := by decide +kernel
theorem dX1_join_47 : decode cX1_join 47 = .ok (.iconst 2, 1) := by decide +kernel
theorem dX1_join_48 : decode cX1_join 48 = .ok (.iadd, 1) := by decide +kernel
theorem dX1_join_49 : decode cX1_join 49 = .ok (.iconst 5, 1) := by decide +kernel
theorem dX1_join_50 : decode cX1_join 50 = .ok (.irem, 1) := by decide +kernel
theorem dX1_join_51 : decode cX1_join 51 = .ok (.iadd, 1) := by decide +kernel
theorem dX1_join_52 : decode cX1_join 52 = .ok (.laload, 1) := by decide +kernel
theorem dX1_join_53 : decode cX1_join 53 = .ok (.land, 1) := by decide +kernel
theorem dX1_join_54 : decode cX1_join 54 = .ok (.lxor, 1) := by decide +kernel
theorem dX1_join_55 : decode cX1_join 55 = .ok (.lastore, 1) := by decide +kernel
theorem dX1_join_56 : decode cX1_join 56 = .ok (.iinc 1 1, 3) := by decide +kernel
theorem dX1_join_59 : decode cX1_join 59 = .ok (.goto (-57), 3) := by decide +kernel
theorem dX1_join_62 : decode cX1_join 62 = .ok (.return_, 1) := by decide +kernel
abbrev cX1_squeeze : ByteArray := prog_3_method_12_code
def yX1_squeeze : MethodName := ⟨RX1, "squeeze", "()I"⟩
theorem dX1_squeeze_0 : decode cX1_squeeze 0 = .ok (.aload_n 0, 1) := by decide +kernel
theorem dX1_squeeze_1 : decode cX1_squeeze 1 = .ok (.getfield 23, 3) := by decide +kernel
theorem dX1_squeeze_4 : decode cX1_squeeze 4 = .ok (.ifCond .ne 5, 3) := by decide +kernel
theorem dX1_squeeze_7 : decode cX1_squeeze 7 = .ok (.iconst (-1), 1) := by decide +kernel
theorem dX1_squeeze_8 : decode cX1_squeeze 8 = .ok (.ireturn, 1) := by decide +kernel
theorem dX1_squeeze_9 : decode cX1_squeeze 9 = .ok (.aload_n 0, 1) := by decide +kernel
theorem dX1_squeeze_10 : decode cX1_squeeze 10 = .ok (.getfield 26, 3) := by decide +kernel
theorem dX1_squeeze_13 : decode cX1_squeeze 13 = .ok (.ifCond .ne 15, 3) := by decide +kernel
theorem dX1_squeeze_16 : decode cX1_squeeze 16 = .ok (.aload_n 0, 1) := by decide +kernel
theorem dX1_squeeze_17 : decode cX1_squeeze 17 = .ok (.getfield 36, 3) := by decide +kernel
theorem dX1_squeeze_20 : decode cX1_squeeze 20 = .ok (.bipush 32, 2) := by decide +kernel
theorem dX1_squeeze_22 : decode cX1_squeeze 22 = .ok (.if_icmp .ne 6, 3) := by decide +kernel
theorem dX1_squeeze_25 : decode cX1_squeeze 25 = .ok (.bipush (-2), 2) := by decide +kernel
theorem dX1_squeeze_27 : decode cX1_squeeze 27 = .ok (.ireturn, 1) := by decide +kernel
theorem dX1_squeeze_28 : decode cX1_squeeze 28 = .ok (.aload_n 0, 1) := by decide +kernel
theorem dX1_squeeze_29 : decode cX1_squeeze 29 = .ok (.getfield 36, 3) := by decide +kernel
theorem dX1_squeeze_32 : decode cX1_squeeze 32 = .ok (.ifCond .ne 50, 3) := by decide +kernel
theorem dX1_squeeze_35 : decode cX1_squeeze 35 = .ok (.aload_n 0, 1) := by decide +kernel
theorem dX1_squeeze_36 : decode cX1_squeeze 36 = .ok (.aload_n 0, 1) := by decide +kernel
theorem dX1_squeeze_37 : decode cX1_squeeze 37 = .ok (.getfield 26, 3) := by decide +kernel
theorem dX1_squeeze_40 : decode cX1_squeeze 40 = .ok (.ifCond .ne 8, 3) := by decide +kernel
theorem dX1_squeeze_43 : decode cX1_squeeze 43 = .ok (.bipush 6, 2) := by decide +kernel
theorem dX1_squeeze_45 : decode cX1_squeeze 45 = .ok (.goto 5, 3) := by decide +kernel
theorem dX1_squeeze_48 : decode cX1_squeeze 48 = .ok (.bipush 31, 2) := by decide +kernel
theorem dX1_squeeze_50 : decode cX1_squeeze 50 = .ok (.aload_n 0, 1) := by decide +kernel
theorem dX1_squeeze_51 : decode cX1_squeeze 51 = .ok (.getfield 30, 3) := by decide +kernel
theorem dX1_squeeze_54 : decode cX1_squeeze 54 = .ok (.invokevirtual 54, 3) := by decide +kernel
theorem dX1_squeeze_57 : decode cX1_squeeze 57 = .ok (.aload_n 0, 1) := by decide +kernel
theorem dX1_squeeze_58 : decode cX1_squeeze 58 = .ok (.sipush 128, 3) := by decide +kernel
theorem dX1_squeeze_61 : decode cX1_squeeze 61 = .ok (.aload_n 0, 1) := by decide +kernel
theorem dX1_squeeze_62 : decode cX1_squeeze 62 = .ok (.getfield 26, 3) := by decide +kernel
theorem dX1_squeeze_65 : decode cX1_squeeze 65 = .ok (.invokestatic 58, 3) := by decide +kernel
theorem dX1_squeeze_68 : decode cX1_squeeze 68 = .ok (.iconst 1, 1) := by decide +kernel
theorem dX1_squeeze_69 : decode cX1_squeeze 69 = .ok (.isub, 1) := by decide +kernel
theorem dX1_squeeze_70 : decode cX1_squeeze 70 = .ok (.invokevirtual 54, 3) := by decide +kernel
theorem dX1_squeeze_73 : decode cX1_squeeze 73 = .ok (.aload_n 0, 1) := by decide +kernel
theorem dX1_squeeze_74 : decode cX1_squeeze 74 = .ok (.invokevirtual 62, 3) := by decide +kernel
theorem dX1_squeeze_77 : decode cX1_squeeze 77 = .ok (.aload_n 0, 1) := by decide +kernel
theorem dX1_squeeze_78 : decode cX1_squeeze 78 = .ok (.iconst 0, 1) := by decide +kernel
theorem dX1_squeeze_79 : decode cX1_squeeze 79 = .ok (.putfield 30, 3) := by decide +kernel
theorem dX1_squeeze_82 : decode cX1_squeeze 82 = .ok (.aload_n 0, 1) := by decide +kernel
theorem dX1_squeeze_83 : decode cX1_squeeze 83 = .ok (.getfield 30, 3) := by decide +kernel
theorem dX1_squeeze_86 : decode cX1_squeeze 86 = .ok (.aload_n 0, 1) := by decide +kernel
theorem dX1_squeeze_87 : decode cX1_squeeze 87 = .ok (.getfield 26, 3) := by decide +kernel
theorem dX1_squeeze_90 : decode cX1_squeeze 90 = .ok (.invokestatic 58, 3) := by decide +kernel
theorem dX1_squeeze_93 : decode cX1_squeeze 93 = .ok (.if_icmp .ne 12, 3) := by decide +kernel
theorem dX1_squeeze_96 : decode cX1_squeeze 96 = .ok (.aload_n 0, 1) := by decide +kernel
theorem dX1_squeeze_97 : decode cX1_squeeze 97 = .ok (.invokevirtual 62, 3) := by decide +kernel
theorem dX1_squeeze_100 : decode cX1_squeeze 100 = .ok (.aload_n 0, 1) := by decide +kernel
theorem dX1_squeeze_101 : decode cX1_squeeze 101 = .ok (.iconst 0, 1) := by decide +kernel
theorem dX1_squeeze_102 : decode cX1_squeeze 102 = .ok (.putfield 30, 3) := by decide +kernel
theorem dX1_squeeze_105 : decode cX1_squeeze 105 = .ok (.aload_n 0, 1) := by decide +kernel
theorem dX1_squeeze_106 : decode cX1_squeeze 106 = .ok (.getfield 7, 3) := by decide +kernel
theorem dX1_squeeze_109 : decode cX1_squeeze 109 = .ok (.aload_n 0, 1) := by decide +kernel
theorem dX1_squeeze_110 : decode cX1_squeeze 110 = .ok (.getfield 30, 3) := by decide +kernel
theorem dX1_squeeze_113 : decode cX1_squeeze 113 = .ok (.bipush 8, 2) := by decide +kernel
theorem dX1_squeeze_115 : decode cX1_squeeze 115 = .ok (.idiv, 1) := by decide +kernel
theorem dX1_squeeze_116 : decode cX1_squeeze 116 = .ok (.laload, 1) := by decide +kernel
theorem dX1_squeeze_117 : decode cX1_squeeze 117 = .ok (.bipush 8, 2) := by decide +kernel
theorem dX1_squeeze_119 : decode cX1_squeeze 119 = .ok (.aload_n 0, 1) := by decide +kernel
theorem dX1_squeeze_120 : decode cX1_squeeze 120 = .ok (.getfield 30, 3) := by decide +kernel
theorem dX1_squeeze_123 : decode cX1_squeeze 123 = .ok (.bipush 8, 2) := by decide +kernel
theorem dX1_squeeze_125 : decode cX1_squeeze 125 = .ok (.irem, 1) := by decide +kernel
theorem dX1_squeeze_126 : decode cX1_squeeze 126 = .ok (.imul, 1) := by decide +kernel
theorem dX1_squeeze_127 : decode cX1_squeeze 127 = .ok (.lushr, 1) := by decide +kernel
theorem dX1_squeeze_128 : decode cX1_squeeze 128 = .ok (.ldc2_w 65, 3) := by decide +kernel
theorem dX1_squeeze_131 : decode cX1_squeeze 131 = .ok (.land, 1) := by decide +kernel
theorem dX1_squeeze_132 : decode cX1_squeeze 132 = .ok (.l2i, 1) := by decide +kernel
theorem dX1_squeeze_133 : decode cX1_squeeze 133 = .ok (.istore_n 1, 1) := by decide +kernel
theorem dX1_squeeze_134 : decode cX1_squeeze 134 = .ok (.aload_n 0, 1) := by decide +kernel
theorem dX1_squeeze_135 : decode cX1_squeeze 135 = .ok (.dup, 1) := by decide +kernel
theorem dX1_squeeze_136 : decode cX1_squeeze 136 = .ok (.getfield 30, 3) := by decide +kernel
theorem dX1_squeeze_139 : decode cX1_squeeze 139 = .ok (.iconst 1, 1) := by decide +kernel
theorem dX1_squeeze_140 : decode cX1_squeeze 140 = .ok (.iadd, 1) := by decide +kernel
theorem dX1_squeeze_141 : decode cX1_squeeze 141 = .ok (.putfield 30, 3) := by decide +kernel
theorem dX1_squeeze_144 : decode cX1_squeeze 144 = .ok (.aload_n 0, 1) := by decide +kernel
theorem dX1_squeeze_145 : decode cX1_squeeze 145 = .ok (.dup, 1) := by decide +kernel
theorem dX1_squeeze_146 : decode cX1_squeeze 146 = .ok (.getfield 36, 3) := by decide +kernel
theorem dX1_squeeze_149 : decode cX1_squeeze 149 = .ok (.iconst 1, 1) := by decide +kernel
theorem dX1_squeeze_150 : decode cX1_squeeze 150 = .ok (.iadd, 1) := by decide +kernel
theorem dX1_squeeze_151 : decode cX1_squeeze 151 = .ok (.putfield 36, 3) := by decide +kernel
theorem dX1_squeeze_154 : decode cX1_squeeze 154 = .ok (.iload_n 1, 1) := by decide +kernel
theorem dX1_squeeze_155 : decode cX1_squeeze 155 = .ok (.ireturn, 1) := by decide +kernel
abbrev cX1_lane : ByteArray := prog_3_method_13_code
def yX1_lane : MethodName := ⟨RX1, "lane", "(II)I"⟩
theorem dX1_lane_0 : decode cX1_lane 0 = .ok (.aload_n 0, 1) := by decide +kernel
theorem dX1_lane_1 : decode cX1_lane 1 = .ok (.getfield 23, 3) := by decide +kernel
theorem dX1_lane_4 : decode cX1_lane 4 = .ok (.ifCond .eq 22, 3) := by decide +kernel
theorem dX1_lane_7 : decode cX1_lane 7 = .ok (.iload_n 1, 1) := by decide +kernel
theorem dX1_lane_8 : decode cX1_lane 8 = .ok (.ifCond .lt 18, 3) := by decide +kernel
theorem dX1_lane_11 : decode cX1_lane 11 = .ok (.iload_n 1, 1) := by decide +kernel
theorem dX1_lane_12 : decode cX1_lane 12 = .ok (.bipush 25, 2) := by decide +kernel
theorem dX1_lane_14 : decode cX1_lane 14 = .ok (.if_icmp .ge 12, 3) := by decide +kernel
theorem dX1_lane_17 : decode cX1_lane 17 = .ok (.iload_n 2, 1) := by decide +kernel
theorem dX1_lane_18 : decode cX1_lane 18 = .ok (.ifCond .lt 8, 3) := by decide +kernel
theorem dX1_lane_21 : decode cX1_lane 21 = .ok (.iload_n 2, 1) := by decide +kernel
theorem dX1_lane_22 : decode cX1_lane 22 = .ok (.iconst 1, 1) := by decide +kernel
theorem dX1_lane_23 : decode cX1_lane 23 = .ok (.if_icmp .le 5, 3) := by decide +kernel
theorem dX1_lane_26 : decode cX1_lane 26 = .ok (.iconst 0, 1) := by decide +kernel
theorem dX1_lane_27 : decode cX1_lane 27 = .ok (.ireturn, 1) := by decide +kernel
theorem dX1_lane_28 : decode cX1_lane 28 = .ok (.iload_n 2, 1) := by decide +kernel
theorem dX1_lane_29 : decode cX1_lane 29 = .ok (.ifCond .ne 12, 3) := by decide +kernel
theorem dX1_lane_32 : decode cX1_lane 32 = .ok (.aload_n 0, 1) := by decide +kernel
theorem dX1_lane_33 : decode cX1_lane 33 = .ok (.getfield 7, 3) := by decide +kernel
theorem dX1_lane_36 : decode cX1_lane 36 = .ok (.iload_n 1, 1) := by decide +kernel
theorem dX1_lane_37 : decode cX1_lane 37 = .ok (.laload, 1) := by decide +kernel
theorem dX1_lane_38 : decode cX1_lane 38 = .ok (.goto 12, 3) := by decide +kernel
theorem dX1_lane_41 : decode cX1_lane 41 = .ok (.aload_n 0, 1) := by decide +kernel
theorem dX1_lane_42 : decode cX1_lane 42 = .ok (.getfield 7, 3) := by decide +kernel
theorem dX1_lane_45 : decode cX1_lane 45 = .ok (.iload_n 1, 1) := by decide +kernel
theorem dX1_lane_46 : decode cX1_lane 46 = .ok (.laload, 1) := by decide +kernel
theorem dX1_lane_47 : decode cX1_lane 47 = .ok (.bipush 32, 2) := by decide +kernel
theorem dX1_lane_49 : decode cX1_lane 49 = .ok (.lushr, 1) := by decide +kernel
theorem dX1_lane_50 : decode cX1_lane 50 = .ok (.l2i, 1) := by decide +kernel
theorem dX1_lane_51 : decode cX1_lane 51 = .ok (.ireturn, 1) := by decide +kernel
abbrev cX1_count : ByteArray := prog_3_method_14_code
def yX1_count : MethodName := ⟨RX1, "count", "()I"⟩
theorem dX1_count_0 : decode cX1_count 0 = .ok (.aload_n 0, 1) := by decide +kernel
theorem dX1_count_1 : decode cX1_count 1 = .ok (.getfield 36, 3) := by decide +kernel
theorem dX1_count_4 : decode cX1_count 4 = .ok (.ifCond .le 11, 3) := by decide +kernel
theorem dX1_count_7 : decode cX1_count 7 = .ok (.aload_n 0, 1) := by decide +kernel
theorem dX1_count_8 : decode cX1_count 8 = .ok (.getfield 36, 3) := by decide +kernel
theorem dX1_count_11 : decode cX1_count 11 = .ok (.ineg, 1) := by decide +kernel
theorem dX1_count_12 : decode cX1_count 12 = .ok (.goto 7, 3) := by decide +kernel
theorem dX1_count_15 : decode cX1_count 15 = .ok (.aload_n 0, 1) := by decide +kernel
theorem dX1_count_16 : decode cX1_count 16 = .ok (.getfield 33, 3) := by decide +kernel
theorem dX1_count_19 : decode cX1_count 19 = .ok (.ireturn, 1) := by decide +kernel
theorem q13 : (Jvm.Cond.initialized "SpongePairsModel") ∈ lw_all := lw_g (lw_at lw_m0 2 rfl) rfl
theorem q121 : (Jvm.Cond.instantiable "SpongePairsModel" (9 : Nat)) ∈ lw_all := lw_g (lw_at lw_m0 110 rfl) rfl
theorem q123 : (Jvm.Cond.instanceMethod ({ cls := "SpongePairsModel", name := "<init>", desc := "()V" } : Jvm.MethodName)) ∈ lw_all := lw_g (lw_at lw_m0 112 rfl) rfl
theorem q124 : (Jvm.Cond.code ({ cls := "SpongePairsModel", name := "<init>", desc := "()V" } : Jvm.MethodName) prog_3_method_1_code (1 : Nat) (Option.none : Option Jvm.ClassFile.FieldType)) ∈ lw_all := lw_g (lw_at lw_m0 113 rfl) rfl
theorem q125 : (Jvm.Cond.methodLink "SpongePairsModel" (1 : Nat) ({ cls := "java/lang/Object", name := "<init>", desc := "()V" } : Jvm.MethodName)) ∈ lw_all := lw_g (lw_at lw_m0 114 rfl) rfl
theorem q126 : (Jvm.Cond.fieldLink "SpongePairsModel" (19 : Nat) "SpongePairsModel" "isReady" "Z") ∈ lw_all := lw_g (lw_at lw_m0 115 rfl) rfl
theorem q127 : (Jvm.Cond.fieldLink "SpongePairsModel" (23 : Nat) "SpongePairsModel" "isBegun" "Z") ∈ lw_all := lw_g (lw_at lw_m0 116 rfl) rfl
theorem q128 : (Jvm.Cond.fieldLink "SpongePairsModel" (26 : Nat) "SpongePairsModel" "way" "I") ∈ lw_all := lw_g (lw_at lw_m0 117 rfl) rfl
theorem q129 : (Jvm.Cond.fieldLink "SpongePairsModel" (30 : Nat) "SpongePairsModel" "place" "I") ∈ lw_all := lw_g (lw_at lw_m0 118 rfl) rfl
theorem q130 : (Jvm.Cond.fieldLink "SpongePairsModel" (33 : Nat) "SpongePairsModel" "taken" "I") ∈ lw_all := lw_g (lw_at lw_m0 119 rfl) rfl
theorem q131 : (Jvm.Cond.fieldLink "SpongePairsModel" (36 : Nat) "SpongePairsModel" "come" "I") ∈ lw_all := lw_g (lw_at lw_m0 120 rfl) rfl
theorem q132 : (Jvm.Cond.fieldLink "SpongePairsModel" (7 : Nat) "SpongePairsModel" "state" "[J") ∈ lw_all := lw_g (lw_at lw_m0 121 rfl) rfl
theorem q133 : (Jvm.Cond.fieldLink "SpongePairsModel" (13 : Nat) "SpongePairsModel" "other" "[J") ∈ lw_all := lw_g (lw_at lw_m0 122 rfl) rfl
theorem q134 : (Jvm.Cond.fieldLink "SpongePairsModel" (16 : Nat) "SpongePairsModel" "sums" "[J") ∈ lw_all := lw_g (lw_at lw_m0 123 rfl) rfl
theorem q135 : (Jvm.Cond.lays "SpongePairsModel" "SpongePairsModel" "isReady" "Z") ∈ lw_all := lw_g (lw_at lw_m0 124 rfl) rfl
theorem q136 : (Jvm.Cond.soleField "SpongePairsModel" "isReady") ∈ lw_all := lw_g (lw_at lw_m0 125 rfl) rfl
theorem q137 : (Jvm.Cond.lays "SpongePairsModel" "SpongePairsModel" "isBegun" "Z") ∈ lw_all := lw_g (lw_at lw_m0 126 rfl) rfl
theorem q138 : (Jvm.Cond.soleField "SpongePairsModel" "isBegun") ∈ lw_all := lw_g (lw_at lw_m0 127 rfl) rfl
theorem q139 : (Jvm.Cond.lays "SpongePairsModel" "SpongePairsModel" "way" "I") ∈ lw_all := lw_g (lw_at lw_m0 128 rfl) rfl
theorem q140 : (Jvm.Cond.soleField "SpongePairsModel" "way") ∈ lw_all := lw_g (lw_at lw_m0 129 rfl) rfl
theorem q141 : (Jvm.Cond.lays "SpongePairsModel" "SpongePairsModel" "place" "I") ∈ lw_all := lw_g (lw_at lw_m0 130 rfl) rfl
theorem q142 : (Jvm.Cond.soleField "SpongePairsModel" "place") ∈ lw_all := lw_g (lw_at lw_m0 131 rfl) rfl
theorem q143 : (Jvm.Cond.lays "SpongePairsModel" "SpongePairsModel" "taken" "I") ∈ lw_all := lw_g (lw_at lw_m0 132 rfl) rfl
theorem q144 : (Jvm.Cond.soleField "SpongePairsModel" "taken") ∈ lw_all := lw_g (lw_at lw_m0 133 rfl) rfl
theorem q145 : (Jvm.Cond.lays "SpongePairsModel" "SpongePairsModel" "come" "I") ∈ lw_all := lw_g (lw_at lw_m0 134 rfl) rfl
theorem q146 : (Jvm.Cond.soleField "SpongePairsModel" "come") ∈ lw_all := lw_g (lw_at lw_m0 135 rfl) rfl
theorem q147 : (Jvm.Cond.laysFinal "SpongePairsModel" "SpongePairsModel" "state" "[J") ∈ lw_all := lw_g (lw_at lw_m0 136 rfl) rfl
theorem q148 : (Jvm.Cond.soleField "SpongePairsModel" "state") ∈ lw_all := lw_g (lw_at lw_m0 137 rfl) rfl
theorem q149 : (Jvm.Cond.laysFinal "SpongePairsModel" "SpongePairsModel" "other" "[J") ∈ lw_all := lw_g (lw_at lw_m0 138 rfl) rfl
theorem q150 : (Jvm.Cond.soleField "SpongePairsModel" "other") ∈ lw_all := lw_g (lw_at lw_m0 139 rfl) rfl
theorem q151 : (Jvm.Cond.laysFinal "SpongePairsModel" "SpongePairsModel" "sums" "[J") ∈ lw_all := lw_g (lw_at lw_m0 140 rfl) rfl
theorem q152 : (Jvm.Cond.soleField "SpongePairsModel" "sums") ∈ lw_all := lw_g (lw_at lw_m0 141 rfl) rfl
theorem q153 : (Jvm.Cond.superclass "SpongePairsModel" "java/lang/Object") ∈ lw_all := lw_g (lw_at lw_m0 142 rfl) rfl
theorem q156 : (Jvm.Cond.instanceMethod ({ cls := "SpongePairsModel", name := "init", desc := "()V" } : Jvm.MethodName)) ∈ lw_all := lw_g (lw_at lw_m0 145 rfl) rfl
theorem q157 : (Jvm.Cond.selects "SpongePairsModel" ({ cls := "SpongePairsModel", name := "init", desc := "()V" } : Jvm.MethodName) ({ cls := "SpongePairsModel", name := "init", desc := "()V" } : Jvm.MethodName)) ∈ lw_all := lw_g (lw_at lw_m0 146 rfl) rfl
theorem q158 : (Jvm.Cond.code ({ cls := "SpongePairsModel", name := "init", desc := "()V" } : Jvm.MethodName) prog_3_method_2_code (1 : Nat) (Option.none : Option Jvm.ClassFile.FieldType)) ∈ lw_all := lw_g (lw_at lw_m0 147 rfl) rfl
theorem q160 : (Jvm.Cond.instanceMethod ({ cls := "SpongePairsModel", name := "begin", desc := "(I)Z" } : Jvm.MethodName)) ∈ lw_all := lw_g (lw_at lw_m0 149 rfl) rfl
theorem q161 : (Jvm.Cond.selects "SpongePairsModel" ({ cls := "SpongePairsModel", name := "begin", desc := "(I)Z" } : Jvm.MethodName) ({ cls := "SpongePairsModel", name := "begin", desc := "(I)Z" } : Jvm.MethodName)) ∈ lw_all := lw_g (lw_at lw_m0 150 rfl) rfl
theorem q162 : (Jvm.Cond.code ({ cls := "SpongePairsModel", name := "begin", desc := "(I)Z" } : Jvm.MethodName) prog_3_method_4_code (3 : Nat) (Option.some Jvm.ClassFile.FieldType.boolean)) ∈ lw_all := lw_g (lw_at lw_m0 151 rfl) rfl
theorem q164 : (Jvm.Cond.instanceMethod ({ cls := "SpongePairsModel", name := "absorb", desc := "(I)Z" } : Jvm.MethodName)) ∈ lw_all := lw_g (lw_at lw_m0 153 rfl) rfl
theorem q165 : (Jvm.Cond.selects "SpongePairsModel" ({ cls := "SpongePairsModel", name := "absorb", desc := "(I)Z" } : Jvm.MethodName) ({ cls := "SpongePairsModel", name := "absorb", desc := "(I)Z" } : Jvm.MethodName)) ∈ lw_all := lw_g (lw_at lw_m0 154 rfl) rfl
theorem q166 : (Jvm.Cond.code ({ cls := "SpongePairsModel", name := "absorb", desc := "(I)Z" } : Jvm.MethodName) prog_3_method_11_code (2 : Nat) (Option.some Jvm.ClassFile.FieldType.boolean)) ∈ lw_all := lw_g (lw_at lw_m0 155 rfl) rfl
theorem q167 : (Jvm.Cond.methodLink "SpongePairsModel" (54 : Nat) ({ cls := "SpongePairsModel", name := "put", desc := "(II)V" } : Jvm.MethodName)) ∈ lw_all := lw_g (lw_at lw_m0 156 rfl) rfl
theorem q168 : (Jvm.Cond.privateMethod ({ cls := "SpongePairsModel", name := "put", desc := "(II)V" } : Jvm.MethodName)) ∈ lw_tbl := lw_at lw_m0 157 rfl
theorem q169 : (Jvm.Cond.instanceMethod ({ cls := "SpongePairsModel", name := "put", desc := "(II)V" } : Jvm.MethodName)) ∈ lw_all := lw_g (lw_at lw_m0 158 rfl) rfl
theorem q170 : (Jvm.Cond.code ({ cls := "SpongePairsModel", name := "put", desc := "(II)V" } : Jvm.MethodName) prog_3_method_10_code (3 : Nat) (Option.none : Option Jvm.ClassFile.FieldType)) ∈ lw_all := lw_g (lw_at lw_m0 159 rfl) rfl
theorem q171 : (Jvm.Cond.methodLink "SpongePairsModel" (58 : Nat) ({ cls := "SpongePairsModel", name := "rate", desc := "(I)I" } : Jvm.MethodName)) ∈ lw_all := lw_g (lw_at lw_m0 160 rfl) rfl
theorem q172 : (Jvm.Cond.static ({ cls := "SpongePairsModel", name := "rate", desc := "(I)I" } : Jvm.MethodName)) ∈ lw_all := lw_g (lw_at lw_m0 161 rfl) rfl
theorem q173 : (Jvm.Cond.code ({ cls := "SpongePairsModel", name := "rate", desc := "(I)I" } : Jvm.MethodName) prog_3_method_3_code (1 : Nat) (Option.some Jvm.ClassFile.FieldType.int)) ∈ lw_all := lw_g (lw_at lw_m0 162 rfl) rfl
theorem q174 : (Jvm.Cond.methodLink "SpongePairsModel" (62 : Nat) ({ cls := "SpongePairsModel", name := "permute", desc := "()V" } : Jvm.MethodName)) ∈ lw_all := lw_g (lw_at lw_m0 163 rfl) rfl
theorem q175 : (Jvm.Cond.privateMethod ({ cls := "SpongePairsModel", name := "permute", desc := "()V" } : Jvm.MethodName)) ∈ lw_tbl := lw_at lw_m0 164 rfl
theorem q176 : (Jvm.Cond.instanceMethod ({ cls := "SpongePairsModel", name := "permute", desc := "()V" } : Jvm.MethodName)) ∈ lw_all := lw_g (lw_at lw_m0 165 rfl) rfl
theorem q177 : (Jvm.Cond.code ({ cls := "SpongePairsModel", name := "permute", desc := "()V" } : Jvm.MethodName) prog_3_method_9_code (5 : Nat) (Option.none : Option Jvm.ClassFile.FieldType)) ∈ lw_all := lw_g (lw_at lw_m0 166 rfl) rfl
theorem q178 : (Jvm.Cond.methodLink "SpongePairsModel" (45 : Nat) ({ cls := "SpongePairsModel", name := "mix", desc := "()V" } : Jvm.MethodName)) ∈ lw_all := lw_g (lw_at lw_m0 167 rfl) rfl
theorem q179 : (Jvm.Cond.privateMethod ({ cls := "SpongePairsModel", name := "mix", desc := "()V" } : Jvm.MethodName)) ∈ lw_tbl := lw_at lw_m0 168 rfl
theorem q180 : (Jvm.Cond.instanceMethod ({ cls := "SpongePairsModel", name := "mix", desc := "()V" } : Jvm.MethodName)) ∈ lw_all := lw_g (lw_at lw_m0 169 rfl) rfl
theorem q181 : (Jvm.Cond.code ({ cls := "SpongePairsModel", name := "mix", desc := "()V" } : Jvm.MethodName) prog_3_method_6_code (2 : Nat) (Option.none : Option Jvm.ClassFile.FieldType)) ∈ lw_all := lw_g (lw_at lw_m0 170 rfl) rfl
theorem q182 : (Jvm.Cond.methodLink "SpongePairsModel" (39 : Nat) ({ cls := "SpongePairsModel", name := "up", desc := "(JI)J" } : Jvm.MethodName)) ∈ lw_all := lw_g (lw_at lw_m0 171 rfl) rfl
theorem q183 : (Jvm.Cond.static ({ cls := "SpongePairsModel", name := "up", desc := "(JI)J" } : Jvm.MethodName)) ∈ lw_all := lw_g (lw_at lw_m0 172 rfl) rfl
theorem q184 : (Jvm.Cond.code ({ cls := "SpongePairsModel", name := "up", desc := "(JI)J" } : Jvm.MethodName) prog_3_method_5_code (3 : Nat) (Option.some Jvm.ClassFile.FieldType.long)) ∈ lw_all := lw_g (lw_at lw_m0 173 rfl) rfl
theorem q185 : (Jvm.Cond.methodLink "SpongePairsModel" (48 : Nat) ({ cls := "SpongePairsModel", name := "move", desc := "()V" } : Jvm.MethodName)) ∈ lw_all := lw_g (lw_at lw_m0 174 rfl) rfl
theorem q186 : (Jvm.Cond.privateMethod ({ cls := "SpongePairsModel", name := "move", desc := "()V" } : Jvm.MethodName)) ∈ lw_tbl := lw_at lw_m0 175 rfl
theorem q187 : (Jvm.Cond.instanceMethod ({ cls := "SpongePairsModel", name := "move", desc := "()V" } : Jvm.MethodName)) ∈ lw_all := lw_g (lw_at lw_m0 176 rfl) rfl
theorem q188 : (Jvm.Cond.code ({ cls := "SpongePairsModel", name := "move", desc := "()V" } : Jvm.MethodName) prog_3_method_7_code (6 : Nat) (Option.none : Option Jvm.ClassFile.FieldType)) ∈ lw_all := lw_g (lw_at lw_m0 177 rfl) rfl
theorem q189 : (Jvm.Cond.methodLink "SpongePairsModel" (51 : Nat) ({ cls := "SpongePairsModel", name := "join", desc := "()V" } : Jvm.MethodName)) ∈ lw_all := lw_g (lw_at lw_m0 178 rfl) rfl
theorem q190 : (Jvm.Cond.privateMethod ({ cls := "SpongePairsModel", name := "join", desc := "()V" } : Jvm.MethodName)) ∈ lw_tbl := lw_at lw_m0 179 rfl
theorem q191 : (Jvm.Cond.instanceMethod ({ cls := "SpongePairsModel", name := "join", desc := "()V" } : Jvm.MethodName)) ∈ lw_all := lw_g (lw_at lw_m0 180 rfl) rfl
theorem q192 : (Jvm.Cond.code ({ cls := "SpongePairsModel", name := "join", desc := "()V" } : Jvm.MethodName) prog_3_method_8_code (3 : Nat) (Option.none : Option Jvm.ClassFile.FieldType)) ∈ lw_all := lw_g (lw_at lw_m0 181 rfl) rfl
theorem q193 : (Jvm.Cond.constantLong "SpongePairsModel" (43 : Nat) (-1 : Int64)) ∈ lw_all := lw_g (lw_at lw_m0 182 rfl) rfl
theorem q195 : (Jvm.Cond.instanceMethod ({ cls := "SpongePairsModel", name := "squeeze", desc := "()I" } : Jvm.MethodName)) ∈ lw_all := lw_g (lw_at lw_m0 184 rfl) rfl
theorem q196 : (Jvm.Cond.selects "SpongePairsModel" ({ cls := "SpongePairsModel", name := "squeeze", desc := "()I" } : Jvm.MethodName) ({ cls := "SpongePairsModel", name := "squeeze", desc := "()I" } : Jvm.MethodName)) ∈ lw_all := lw_g (lw_at lw_m0 185 rfl) rfl
theorem q197 : (Jvm.Cond.code ({ cls := "SpongePairsModel", name := "squeeze", desc := "()I" } : Jvm.MethodName) prog_3_method_12_code (2 : Nat) (Option.some Jvm.ClassFile.FieldType.int)) ∈ lw_all := lw_g (lw_at lw_m0 186 rfl) rfl
theorem q198 : (Jvm.Cond.constantLong "SpongePairsModel" (65 : Nat) (255 : Int64)) ∈ lw_all := lw_g (lw_at lw_m0 187 rfl) rfl
theorem q200 : (Jvm.Cond.instanceMethod ({ cls := "SpongePairsModel", name := "lane", desc := "(II)I" } : Jvm.MethodName)) ∈ lw_all := lw_g (lw_at lw_m0 189 rfl) rfl
theorem q201 : (Jvm.Cond.selects "SpongePairsModel" ({ cls := "SpongePairsModel", name := "lane", desc := "(II)I" } : Jvm.MethodName) ({ cls := "SpongePairsModel", name := "lane", desc := "(II)I" } : Jvm.MethodName)) ∈ lw_all := lw_g (lw_at lw_m0 190 rfl) rfl
theorem q202 : (Jvm.Cond.code ({ cls := "SpongePairsModel", name := "lane", desc := "(II)I" } : Jvm.MethodName) prog_3_method_13_code (3 : Nat) (Option.some Jvm.ClassFile.FieldType.int)) ∈ lw_all := lw_g (lw_at lw_m0 191 rfl) rfl
theorem q204 : (Jvm.Cond.instanceMethod ({ cls := "SpongePairsModel", name := "count", desc := "()I" } : Jvm.MethodName)) ∈ lw_all := lw_g (lw_at lw_m0 193 rfl) rfl
theorem q205 : (Jvm.Cond.selects "SpongePairsModel" ({ cls := "SpongePairsModel", name := "count", desc := "()I" } : Jvm.MethodName) ({ cls := "SpongePairsModel", name := "count", desc := "()I" } : Jvm.MethodName)) ∈ lw_all := lw_g (lw_at lw_m0 194 rfl) rfl
theorem q206 : (Jvm.Cond.code ({ cls := "SpongePairsModel", name := "count", desc := "()I" } : Jvm.MethodName) prog_3_method_14_code (1 : Nat) (Option.some Jvm.ClassFile.FieldType.int)) ∈ lw_all := lw_g (lw_at lw_m0 195 rfl) rfl
theorem in_X1 : ∀ w ∈ wsX10, w ∈ lw_all := lw_in wsX10 [135, 137, 139, 141, 143, 145, 147, 149, 151] (by decide +kernel) (by decide +kernel)
end
section
/-! java/lang/Object -/
set_option maxRecDepth 100000
def RJ0 : String := "java/lang/Object"
abbrev cJ0_init : ByteArray := object_method_1_code
def yJ0_init : MethodName := ⟨RJ0, "<init>", "()V"⟩
theorem dJ0_init_0 : decode cJ0_init 0 = .ok (.return_, 1) := by decide +kernel
theorem q20 : (Jvm.Cond.instanceMethod ({ cls := "java/lang/Object", name := "<init>", desc := "()V" } : Jvm.MethodName)) ∈ lw_all := lw_g (lw_at lw_m0 9 rfl) rfl
theorem q21 : (Jvm.Cond.code ({ cls := "java/lang/Object", name := "<init>", desc := "()V" } : Jvm.MethodName) object_method_1_code (1 : Nat) (Option.none : Option Jvm.ClassFile.FieldType)) ∈ lw_all := lw_g (lw_at lw_m0 10 rfl) rfl
/-! the law's own entry -/
set_option maxRecDepth 100000
abbrev cL_law : ByteArray := code
theorem dL_law_0 : decode cL_law 0 = .ok (.new 7, 3) := by decide +kernel
theorem dL_law_3 : decode cL_law 3 = .ok (.dup, 1) := by decide +kernel
theorem dL_law_4 : decode cL_law 4 = .ok (.invokespecial 9, 3) := by decide +kernel
theorem dL_law_7 : decode cL_law 7 = .ok (.astore_n 1, 1) := by decide +kernel
theorem dL_law_8 : decode cL_law 8 = .ok (.new 10, 3) := by decide +kernel
theorem dL_law_11 : decode cL_law 11 = .ok (.dup, 1) := by decide +kernel
theorem dL_law_12 : decode cL_law 12 = .ok (.invokespecial 12, 3) := by decide +kernel
theorem dL_law_15 : decode cL_law 15 = .ok (.astore_n 2, 1) := by decide +kernel
theorem dL_law_16 : decode cL_law 16 = .ok (.iconst 0, 1) := by decide +kernel
theorem dL_law_17 : decode cL_law 17 = .ok (.istore_n 3, 1) := by decide +kernel
theorem dL_law_18 : decode cL_law 18 = .ok (.iload_n 3, 1) := by decide +kernel
theorem dL_law_19 : decode cL_law 19 = .ok (.aload_n 0, 1) := by decide +kernel
theorem dL_law_20 : decode cL_law 20 = .ok (.arraylength, 1) := by decide +kernel
theorem dL_law_21 : decode cL_law 21 = .ok (.iconst 3, 1) := by decide +kernel
theorem dL_law_22 : decode cL_law 22 = .ok (.isub, 1) := by decide +kernel
theorem dL_law_23 : decode cL_law 23 = .ok (.if_icmp .gt 171, 3) := by decide +kernel
theorem dL_law_26 : decode cL_law 26 = .ok (.aload_n 0, 1) := by decide +kernel
theorem dL_law_27 : decode cL_law 27 = .ok (.iload_n 3, 1) := by decide +kernel
theorem dL_law_28 : decode cL_law 28 = .ok (.iaload, 1) := by decide +kernel
theorem dL_law_29 : decode cL_law 29 = .ok (.bipush 7, 2) := by decide +kernel
theorem dL_law_31 : decode cL_law 31 = .ok (.iand, 1) := by decide +kernel
theorem dL_law_32 : decode cL_law 32 = .ok (.tableswitch 156 0 5 #[40, 51, 74, 97, 110, 143], 40) := by decide +kernel
theorem dL_law_72 : decode cL_law 72 = .ok (.aload_n 1, 1) := by decide +kernel
theorem dL_law_73 : decode cL_law 73 = .ok (.invokevirtual 13, 3) := by decide +kernel
theorem dL_law_76 : decode cL_law 76 = .ok (.aload_n 2, 1) := by decide +kernel
theorem dL_law_77 : decode cL_law 77 = .ok (.invokevirtual 16, 3) := by decide +kernel
theorem dL_law_80 : decode cL_law 80 = .ok (.goto 108, 3) := by decide +kernel
theorem dL_law_83 : decode cL_law 83 = .ok (.aload_n 1, 1) := by decide +kernel
theorem dL_law_84 : decode cL_law 84 = .ok (.aload_n 0, 1) := by decide +kernel
theorem dL_law_85 : decode cL_law 85 = .ok (.iload_n 3, 1) := by decide +kernel
theorem dL_law_86 : decode cL_law 86 = .ok (.iconst 1, 1) := by decide +kernel
theorem dL_law_87 : decode cL_law 87 = .ok (.iadd, 1) := by decide +kernel
theorem dL_law_88 : decode cL_law 88 = .ok (.iaload, 1) := by decide +kernel
theorem dL_law_89 : decode cL_law 89 = .ok (.invokevirtual 17, 3) := by decide +kernel
theorem dL_law_92 : decode cL_law 92 = .ok (.aload_n 2, 1) := by decide +kernel
theorem dL_law_93 : decode cL_law 93 = .ok (.aload_n 0, 1) := by decide +kernel
theorem dL_law_94 : decode cL_law 94 = .ok (.iload_n 3, 1) := by decide +kernel
theorem dL_law_95 : decode cL_law 95 = .ok (.iconst 1, 1) := by decide +kernel
theorem dL_law_96 : decode cL_law 96 = .ok (.iadd, 1) := by decide +kernel
theorem dL_law_97 : decode cL_law 97 = .ok (.iaload, 1) := by decide +kernel
theorem dL_law_98 : decode cL_law 98 = .ok (.invokevirtual 21, 3) := by decide +kernel
theorem dL_law_101 : decode cL_law 101 = .ok (.if_icmp .eq 87, 3) := by decide +kernel
theorem dL_law_104 : decode cL_law 104 = .ok (.iconst 0, 1) := by decide +kernel
theorem dL_law_105 : decode cL_law 105 = .ok (.ireturn, 1) := by decide +kernel
theorem dL_law_106 : decode cL_law 106 = .ok (.aload_n 1, 1) := by decide +kernel
theorem dL_law_107 : decode cL_law 107 = .ok (.aload_n 0, 1) := by decide +kernel
theorem dL_law_108 : decode cL_law 108 = .ok (.iload_n 3, 1) := by decide +kernel
theorem dL_law_109 : decode cL_law 109 = .ok (.iconst 1, 1) := by decide +kernel
theorem dL_law_110 : decode cL_law 110 = .ok (.iadd, 1) := by decide +kernel
theorem dL_law_111 : decode cL_law 111 = .ok (.iaload, 1) := by decide +kernel
theorem dL_law_112 : decode cL_law 112 = .ok (.invokevirtual 22, 3) := by decide +kernel
theorem dL_law_115 : decode cL_law 115 = .ok (.aload_n 2, 1) := by decide +kernel
theorem dL_law_116 : decode cL_law 116 = .ok (.aload_n 0, 1) := by decide +kernel
theorem dL_law_117 : decode cL_law 117 = .ok (.iload_n 3, 1) := by decide +kernel
theorem dL_law_118 : decode cL_law 118 = .ok (.iconst 1, 1) := by decide +kernel
theorem dL_law_119 : decode cL_law 119 = .ok (.iadd, 1) := by decide +kernel
theorem dL_law_120 : decode cL_law 120 = .ok (.iaload, 1) := by decide +kernel
theorem dL_law_121 : decode cL_law 121 = .ok (.invokevirtual 25, 3) := by decide +kernel
theorem dL_law_124 : decode cL_law 124 = .ok (.if_icmp .eq 64, 3) := by decide +kernel
theorem dL_law_127 : decode cL_law 127 = .ok (.iconst 0, 1) := by decide +kernel
theorem dL_law_128 : decode cL_law 128 = .ok (.ireturn, 1) := by decide +kernel
theorem dL_law_129 : decode cL_law 129 = .ok (.aload_n 1, 1) := by decide +kernel
theorem dL_law_130 : decode cL_law 130 = .ok (.invokevirtual 26, 3) := by decide +kernel
theorem dL_law_133 : decode cL_law 133 = .ok (.aload_n 2, 1) := by decide +kernel
theorem dL_law_134 : decode cL_law 134 = .ok (.invokevirtual 30, 3) := by decide +kernel
theorem dL_law_137 : decode cL_law 137 = .ok (.if_icmp .eq 51, 3) := by decide +kernel
theorem dL_law_140 : decode cL_law 140 = .ok (.iconst 0, 1) := by decide +kernel
theorem dL_law_141 : decode cL_law 141 = .ok (.ireturn, 1) := by decide +kernel
theorem dL_law_142 : decode cL_law 142 = .ok (.aload_n 1, 1) := by decide +kernel
theorem dL_law_143 : decode cL_law 143 = .ok (.aload_n 0, 1) := by decide +kernel
theorem dL_law_144 : decode cL_law 144 = .ok (.iload_n 3, 1) := by decide +kernel
theorem dL_law_145 : decode cL_law 145 = .ok (.iconst 1, 1) := by decide +kernel
theorem dL_law_146 : decode cL_law 146 = .ok (.iadd, 1) := by decide +kernel
theorem dL_law_147 : decode cL_law 147 = .ok (.iaload, 1) := by decide +kernel
theorem dL_law_148 : decode cL_law 148 = .ok (.aload_n 0, 1) := by decide +kernel
theorem dL_law_149 : decode cL_law 149 = .ok (.iload_n 3, 1) := by decide +kernel
theorem dL_law_150 : decode cL_law 150 = .ok (.iconst 2, 1) := by decide +kernel
theorem dL_law_151 : decode cL_law 151 = .ok (.iadd, 1) := by decide +kernel
theorem dL_law_152 : decode cL_law 152 = .ok (.iaload, 1) := by decide +kernel
theorem dL_law_153 : decode cL_law 153 = .ok (.invokevirtual 31, 3) := by decide +kernel
theorem dL_law_156 : decode cL_law 156 = .ok (.aload_n 2, 1) := by decide +kernel
theorem dL_law_157 : decode cL_law 157 = .ok (.aload_n 0, 1) := by decide +kernel
theorem dL_law_158 : decode cL_law 158 = .ok (.iload_n 3, 1) := by decide +kernel
theorem dL_law_159 : decode cL_law 159 = .ok (.iconst 1, 1) := by decide +kernel
theorem dL_law_160 : decode cL_law 160 = .ok (.iadd, 1) := by decide +kernel
theorem dL_law_161 : decode cL_law 161 = .ok (.iaload, 1) := by decide +kernel
theorem dL_law_162 : decode cL_law 162 = .ok (.aload_n 0, 1) := by decide +kernel
theorem dL_law_163 : decode cL_law 163 = .ok (.iload_n 3, 1) := by decide +kernel
theorem dL_law_164 : decode cL_law 164 = .ok (.iconst 2, 1) := by decide +kernel
theorem dL_law_165 : decode cL_law 165 = .ok (.iadd, 1) := by decide +kernel
theorem dL_law_166 : decode cL_law 166 = .ok (.iaload, 1) := by decide +kernel
theorem dL_law_167 : decode cL_law 167 = .ok (.invokevirtual 35, 3) := by decide +kernel
theorem dL_law_170 : decode cL_law 170 = .ok (.if_icmp .eq 18, 3) := by decide +kernel
theorem dL_law_173 : decode cL_law 173 = .ok (.iconst 0, 1) := by decide +kernel
theorem dL_law_174 : decode cL_law 174 = .ok (.ireturn, 1) := by decide +kernel
theorem dL_law_175 : decode cL_law 175 = .ok (.aload_n 1, 1) := by decide +kernel
theorem dL_law_176 : decode cL_law 176 = .ok (.invokevirtual 36, 3) := by decide +kernel
theorem dL_law_179 : decode cL_law 179 = .ok (.aload_n 2, 1) := by decide +kernel
theorem dL_law_180 : decode cL_law 180 = .ok (.invokevirtual 39, 3) := by decide +kernel
theorem dL_law_183 : decode cL_law 183 = .ok (.if_icmp .eq 5, 3) := by decide +kernel
theorem dL_law_186 : decode cL_law 186 = .ok (.iconst 0, 1) := by decide +kernel
theorem dL_law_187 : decode cL_law 187 = .ok (.ireturn, 1) := by decide +kernel
theorem dL_law_188 : decode cL_law 188 = .ok (.iinc 3 3, 3) := by decide +kernel
theorem dL_law_191 : decode cL_law 191 = .ok (.goto (-173), 3) := by decide +kernel
theorem dL_law_194 : decode cL_law 194 = .ok (.iconst 1, 1) := by decide +kernel
theorem dL_law_195 : decode cL_law 195 = .ok (.ireturn, 1) := by decide +kernel
theorem q68 : (Jvm.Cond.arrayClass Jvm.ClassFile.FieldType.int) ∈ lw_all := lw_g (lw_at lw_m0 57 rfl) rfl
set_option maxRecDepth 100000
theorem q154 : (Jvm.Cond.arrayClass Jvm.ClassFile.FieldType.long) ∈ lw_all := lw_g (lw_at lw_m0 143 rfl) rfl
theorem q11 : (Jvm.Cond.initialized "SpongePairsLaw") ∈ lw_all := lw_g (lw_at lw_m0 0 rfl) rfl
set_option maxRecDepth 100000
theorem q14 : (Jvm.Cond.classLink "SpongePairsLaw" (7 : Nat) "SpongePairs") ∈ lw_all := lw_g (lw_at lw_m0 3 rfl) rfl
theorem q16 : (Jvm.Cond.methodLink "SpongePairsLaw" (9 : Nat) ({ cls := "SpongePairs", name := "<init>", desc := "()V" } : Jvm.MethodName)) ∈ lw_all := lw_g (lw_at lw_m0 5 rfl) rfl
theorem q69 : (Jvm.Cond.methodLink "SpongePairsLaw" (13 : Nat) ({ cls := "SpongePairs", name := "init", desc := "()V" } : Jvm.MethodName)) ∈ lw_all := lw_g (lw_at lw_m0 58 rfl) rfl
theorem q73 : (Jvm.Cond.methodLink "SpongePairsLaw" (17 : Nat) ({ cls := "SpongePairs", name := "begin", desc := "(I)Z" } : Jvm.MethodName)) ∈ lw_all := lw_g (lw_at lw_m0 62 rfl) rfl
theorem q77 : (Jvm.Cond.methodLink "SpongePairsLaw" (22 : Nat) ({ cls := "SpongePairs", name := "absorb", desc := "(I)Z" } : Jvm.MethodName)) ∈ lw_all := lw_g (lw_at lw_m0 66 rfl) rfl
theorem q104 : (Jvm.Cond.methodLink "SpongePairsLaw" (26 : Nat) ({ cls := "SpongePairs", name := "squeeze", desc := "()I" } : Jvm.MethodName)) ∈ lw_all := lw_g (lw_at lw_m0 93 rfl) rfl
theorem q112 : (Jvm.Cond.methodLink "SpongePairsLaw" (31 : Nat) ({ cls := "SpongePairs", name := "lane", desc := "(II)I" } : Jvm.MethodName)) ∈ lw_all := lw_g (lw_at lw_m0 101 rfl) rfl
theorem q116 : (Jvm.Cond.methodLink "SpongePairsLaw" (36 : Nat) ({ cls := "SpongePairs", name := "count", desc := "()I" } : Jvm.MethodName)) ∈ lw_all := lw_g (lw_at lw_m0 105 rfl) rfl
theorem q120 : (Jvm.Cond.classLink "SpongePairsLaw" (10 : Nat) "SpongePairsModel") ∈ lw_all := lw_g (lw_at lw_m0 109 rfl) rfl
theorem q122 : (Jvm.Cond.methodLink "SpongePairsLaw" (12 : Nat) ({ cls := "SpongePairsModel", name := "<init>", desc := "()V" } : Jvm.MethodName)) ∈ lw_all := lw_g (lw_at lw_m0 111 rfl) rfl
theorem q155 : (Jvm.Cond.methodLink "SpongePairsLaw" (16 : Nat) ({ cls := "SpongePairsModel", name := "init", desc := "()V" } : Jvm.MethodName)) ∈ lw_all := lw_g (lw_at lw_m0 144 rfl) rfl
theorem q159 : (Jvm.Cond.methodLink "SpongePairsLaw" (21 : Nat) ({ cls := "SpongePairsModel", name := "begin", desc := "(I)Z" } : Jvm.MethodName)) ∈ lw_all := lw_g (lw_at lw_m0 148 rfl) rfl
theorem q163 : (Jvm.Cond.methodLink "SpongePairsLaw" (25 : Nat) ({ cls := "SpongePairsModel", name := "absorb", desc := "(I)Z" } : Jvm.MethodName)) ∈ lw_all := lw_g (lw_at lw_m0 152 rfl) rfl
theorem q194 : (Jvm.Cond.methodLink "SpongePairsLaw" (30 : Nat) ({ cls := "SpongePairsModel", name := "squeeze", desc := "()I" } : Jvm.MethodName)) ∈ lw_all := lw_g (lw_at lw_m0 183 rfl) rfl
theorem q199 : (Jvm.Cond.methodLink "SpongePairsLaw" (35 : Nat) ({ cls := "SpongePairsModel", name := "lane", desc := "(II)I" } : Jvm.MethodName)) ∈ lw_all := lw_g (lw_at lw_m0 188 rfl) rfl
theorem q203 : (Jvm.Cond.methodLink "SpongePairsLaw" (39 : Nat) ({ cls := "SpongePairsModel", name := "count", desc := "()I" } : Jvm.MethodName)) ∈ lw_all := lw_g (lw_at lw_m0 192 rfl) rfl
end
section
/-! my own rows over the kit: numbers on the stack as nI n; worlds of the two classes; calls inside one world -/
abbrev vwCl : List vw_C := [(RX0, TX0, 15), (RX1, TX1, 9)]
/-- SpongePairs: the object and its seven int arrays (lo hi rcLo rcHi rot tmpLo tmpHi); fields ready rate suffix pos phase limit given taken -/
abbrev spW (ad : Nat → Nat) (d : ClassId) (lo hi rl rh rt tl th : Nat → Int32) (rd ra su po ph li gi ta : Int32) : va_W :=
  [(ad 0, .inr (0, [.ref (ad 1), .ref (ad 2), .ref (ad 3), .ref (ad 4), .ref (ad 5), .ref (ad 6), .ref (ad 7), .int rd, .int ra, .int su, .int po, .int ph, .int li, .int gi, .int ta])),
   (ad 1, .inl (d, 25, .inl lo)), (ad 2, .inl (d, 25, .inl hi)), (ad 3, .inl (d, 24, .inl rl)), (ad 4, .inl (d, 24, .inl rh)), (ad 5, .inl (d, 25, .inl rt)), (ad 6, .inl (d, 25, .inl tl)), (ad 7, .inl (d, 25, .inl th))]
/-- SpongePairsModel: the object and its three long arrays (state other sums); fields isReady isBegun way place taken come -/
abbrev mdW (ad : Nat → Nat) (d : ClassId) (st ot su : Nat → Int64) (ir ib wa pl ta co : Int32) : va_W :=
  [(ad 0, .inr (1, [.int ir, .int ib, .int wa, .int pl, .int ta, .int co, .ref (ad 1), .ref (ad 2), .ref (ad 3)])),
   (ad 1, .inl (d, 25, .inr (.inl st))), (ad 2, .inl (d, 25, .inr (.inl ot))), (ad 3, .inl (d, 5, .inr (.inl su)))]
/-- a contract's start: the world, known classes, cells apart -/
abbrev sp_pre (D : va_G) (tys : List (ClassId × FieldType)) (sz : Nat) (ws : va_W) (U : State) : Prop := U.heap.size = sz ∧ va_P D vwCl ws U.heap ∧ va_K D vwCl tys U ∧ va_D (fun _ => True) ws
/-- a contract's end: the new world -/
abbrev sp_end {X : Type} (D : va_G) (tys : List (ClassId × FieldType)) (A : Nat → Prop) (w : X → va_W) (x : X) (t : State) : Prop := va_P D vwCl (w x) t.heap ∧ va_K D vwCl tys t ∧ va_D A (w x)
/-- a walk's world now -/
abbrev sp_in (D : va_G) (A : Nat → Prop) (H0 : Heap) (ws : va_W) (H : Heap) (locs : List Loc) : Prop := va_P D vwCl ws H ∧ va_D A ws ∧ va_S A H0 H locs
theorem kc_m1 : Int32.ofInt (-1) = (-1 : Int32) := by decide +kernel
theorem kc_0 : Int32.ofInt 0 = nI 0 := by decide +kernel
theorem kc_1 : Int32.ofInt 1 = nI 1 := by decide +kernel
theorem kc_2 : Int32.ofInt 2 = nI 2 := by decide +kernel
theorem kc_3 : Int32.ofInt 3 = nI 3 := by decide +kernel
theorem kc_4 : Int32.ofInt 4 = nI 4 := by decide +kernel
theorem kc_5 : Int32.ofInt 5 = nI 5 := by decide +kernel
theorem kb_m2 : (Int8.ofInt (-2)).toInt32 = (-2 : Int32) := by decide +kernel
theorem kb_6 : (Int8.ofInt 6).toInt32 = nI 6 := by decide +kernel
theorem kb_7 : (Int8.ofInt 7).toInt32 = nI 7 := by decide +kernel
theorem kb_8 : (Int8.ofInt 8).toInt32 = nI 8 := by decide +kernel
theorem kb_10 : (Int8.ofInt 10).toInt32 = nI 10 := by decide +kernel
theorem kb_15 : (Int8.ofInt 15).toInt32 = nI 15 := by decide +kernel
theorem kb_20 : (Int8.ofInt 20).toInt32 = nI 20 := by decide +kernel
theorem kb_24 : (Int8.ofInt 24).toInt32 = nI 24 := by decide +kernel
theorem kb_25 : (Int8.ofInt 25).toInt32 = nI 25 := by decide +kernel
theorem kb_31 : (Int8.ofInt 31).toInt32 = nI 31 := by decide +kernel
theorem kb_32 : (Int8.ofInt 32).toInt32 = nI 32 := by decide +kernel
theorem kb_64 : (Int8.ofInt 64).toInt32 = nI 64 := by decide +kernel
theorem ks_128 : (Int16.ofInt 128).toInt32 = nI 128 := by decide +kernel
theorem ks_136 : (Int16.ofInt 136).toInt32 = nI 136 := by decide +kernel
theorem ks_168 : (Int16.ofInt 168).toInt32 = nI 168 := by decide +kernel
theorem ks_255 : (Int16.ofInt 255).toInt32 = nI 255 := by decide +kernel
theorem ks_369 : (Int16.ofInt 369).toInt32 = nI 369 := by decide +kernel
theorem ki_1 (k : Nat) : nI k + Int32.ofInt 1 = nI (k + 1) := by rw [kc_1, nI_add]
theorem ki_3 (k : Nat) : nI k + Int32.ofInt 3 = nI (k + 3) := by rw [kc_3, nI_add]
theorem ki_5 (k : Nat) : nI k + Int32.ofInt 5 = nI (k + 5) := by rw [kc_5, nI_add]
section SPK
variable {p : Program} {l : Launch} {e : Env} {R : Room} {s : State} {m : MethodId} {args : Array Value} {below : List Frame} {meth : Method} {c : Code} {H : Heap} {locs : List Loc} {cells slots : Nat} {Q : State → Prop}
variable {cc : ByteArray} {pc : Nat} {ls : Array Slot} {rest : List Value}
theorem sp_topi {x y : Int32} (h : x = y) (k : W p l e R s m args below meth c H locs cells slots Q (F0 m pc ls (.int y :: rest))) : W p l e R s m args below meth c H locs cells slots Q (F0 m pc ls (.int x :: rest)) := h ▸ k
theorem sp_topl {x y : Int64} (h : x = y) (k : W p l e R s m args below meth c H locs cells slots Q (F0 m pc ls (.long y :: rest))) : W p l e R s m args below meth c H locs cells slots Q (F0 m pc ls (.long x :: rest)) := h ▸ k
theorem sp_iadd (hx : p.tables.exec = Jvm.exec) (hb : c.code = cc) {x y z : Nat} (hz : x + y = z) (hdg : decode cc pc = .ok (.iadd, 1)) (k : W p l e R s m args below meth c H locs cells slots Q (F0 m (pc + 1) ls (.int (nI z) :: rest))) : W p l e R s m args below meth c H locs cells slots Q (F0 m pc ls (.int (nI y) :: .int (nI x) :: rest)) :=
  lv_iadd hx hb hdg (by rw [nI_add, hz]; exact k)
theorem sp_isub (hx : p.tables.exec = Jvm.exec) (hb : c.code = cc) {x y z : Nat} (h : y ≤ x) (hz : x - y = z) (hdg : decode cc pc = .ok (.isub, 1)) (k : W p l e R s m args below meth c H locs cells slots Q (F0 m (pc + 1) ls (.int (nI z) :: rest))) : W p l e R s m args below meth c H locs cells slots Q (F0 m pc ls (.int (nI y) :: .int (nI x) :: rest)) :=
  lv_isub hx hb hdg (by rw [pk_sub h, hz]; exact k)
theorem sp_imul (hx : p.tables.exec = Jvm.exec) (hb : c.code = cc) {x y z : Nat} (hz : x * y = z) (hdg : decode cc pc = .ok (.imul, 1)) (k : W p l e R s m args below meth c H locs cells slots Q (F0 m (pc + 1) ls (.int (nI z) :: rest))) : W p l e R s m args below meth c H locs cells slots Q (F0 m pc ls (.int (nI y) :: .int (nI x) :: rest)) :=
  lv_imul hx hb hdg (by rw [pk_mul, hz]; exact k)
theorem sp_idiv (hx : p.tables.exec = Jvm.exec) (hb : c.code = cc) {x y z : Nat} (h : x < 2 ^ 31) (h0 : 0 < y) (h1 : y < 2 ^ 31) (hz : x / y = z) (hdg : decode cc pc = .ok (.idiv, 1)) (k : W p l e R s m args below meth c H locs cells slots Q (F0 m (pc + 1) ls (.int (nI z) :: rest))) : W p l e R s m args below meth c H locs cells slots Q (F0 m pc ls (.int (nI y) :: .int (nI x) :: rest)) :=
  lv_idiv hx hb hdg (nI_ne0 h0 h1) (by rw [pk_div h h0 h1, hz]; exact k)
theorem sp_irem (hx : p.tables.exec = Jvm.exec) (hb : c.code = cc) {x y z : Nat} (h : x < 2 ^ 31) (h0 : 0 < y) (h1 : y < 2 ^ 31) (hz : x % y = z) (hdg : decode cc pc = .ok (.irem, 1)) (k : W p l e R s m args below meth c H locs cells slots Q (F0 m (pc + 1) ls (.int (nI z) :: rest))) : W p l e R s m args below meth c H locs cells slots Q (F0 m pc ls (.int (nI y) :: .int (nI x) :: rest)) :=
  lv_irem hx hb hdg (nI_ne0 h0 h1) (by rw [pk_rem h h0 h1, hz]; exact k)
theorem sp_ge (hx : p.tables.exec = Jvm.exec) (hb : c.code = cc) {x y : Nat} {off : Int} {tgt : Nat} (h1 : x < 2 ^ 31) (h2 : y < 2 ^ 31) (hdg : decode cc pc = .ok (.if_icmp .ge off, 3)) (ht : (pc : Int) + off = (tgt : Int))
    (kt : y ≤ x → W p l e R s m args below meth c H locs cells slots Q (F0 m tgt ls rest)) (kf : x < y → W p l e R s m args below meth c H locs cells slots Q (F0 m (pc + 3) ls rest)) : W p l e R s m args below meth c H locs cells slots Q (F0 m pc ls (.int (nI y) :: .int (nI x) :: rest)) :=
  lv_icmp_ge hx hb hdg ht (fun h => kt ((nI_leI h2 h1).mp h)) (fun h => kf (Nat.not_le.mp fun z => h ((nI_leI h2 h1).mpr z)))
theorem sp_le (hx : p.tables.exec = Jvm.exec) (hb : c.code = cc) {x y : Nat} {off : Int} {tgt : Nat} (h1 : x < 2 ^ 31) (h2 : y < 2 ^ 31) (hdg : decode cc pc = .ok (.if_icmp .le off, 3)) (ht : (pc : Int) + off = (tgt : Int))
    (kt : x ≤ y → W p l e R s m args below meth c H locs cells slots Q (F0 m tgt ls rest)) (kf : y < x → W p l e R s m args below meth c H locs cells slots Q (F0 m (pc + 3) ls rest)) : W p l e R s m args below meth c H locs cells slots Q (F0 m pc ls (.int (nI y) :: .int (nI x) :: rest)) :=
  lv_icmp_le hx hb hdg ht (fun h => kt ((nI_leI h1 h2).mp h)) (fun h => kf (Nat.not_le.mp fun z => h ((nI_leI h1 h2).mpr z)))
theorem sp_ne (hx : p.tables.exec = Jvm.exec) (hb : c.code = cc) {x y : Nat} {off : Int} {tgt : Nat} (h1 : x < 2 ^ 31) (h2 : y < 2 ^ 31) (hdg : decode cc pc = .ok (.if_icmp .ne off, 3)) (ht : (pc : Int) + off = (tgt : Int))
    (kt : x ≠ y → W p l e R s m args below meth c H locs cells slots Q (F0 m tgt ls rest)) (kf : x = y → W p l e R s m args below meth c H locs cells slots Q (F0 m (pc + 3) ls rest)) : W p l e R s m args below meth c H locs cells slots Q (F0 m pc ls (.int (nI y) :: .int (nI x) :: rest)) :=
  lv_icmp_ne hx hb hdg ht (fun h => kt (fun z => h ((nI_eq h1 h2).mpr z))) (fun h => kf ((nI_eq h1 h2).mp h))
theorem sp_eq (hx : p.tables.exec = Jvm.exec) (hb : c.code = cc) {x y : Nat} {off : Int} {tgt : Nat} (h1 : x < 2 ^ 31) (h2 : y < 2 ^ 31) (hdg : decode cc pc = .ok (.if_icmp .eq off, 3)) (ht : (pc : Int) + off = (tgt : Int))
    (kt : x = y → W p l e R s m args below meth c H locs cells slots Q (F0 m tgt ls rest)) (kf : x ≠ y → W p l e R s m args below meth c H locs cells slots Q (F0 m (pc + 3) ls rest)) : W p l e R s m args below meth c H locs cells slots Q (F0 m pc ls (.int (nI y) :: .int (nI x) :: rest)) :=
  lv_icmp_eq hx hb hdg ht (fun h => kt ((nI_eq h1 h2).mp h)) (fun h => kf (fun z => h ((nI_eq h1 h2).mpr z)))
theorem sp_nz {x : Nat} (h : x < 2 ^ 31) : nI x = 0 ↔ x = 0 := by
  rw [← nI_0]
  exact nI_eq h (by decide)
theorem sp_ife (hx : p.tables.exec = Jvm.exec) (hb : c.code = cc) {x : Nat} {off : Int} {tgt : Nat} (h1 : x < 2 ^ 31) (hdg : decode cc pc = .ok (.ifCond .eq off, 3)) (ht : (pc : Int) + off = (tgt : Int))
    (kt : x = 0 → W p l e R s m args below meth c H locs cells slots Q (F0 m tgt ls rest)) (kf : x ≠ 0 → W p l e R s m args below meth c H locs cells slots Q (F0 m (pc + 3) ls rest)) : W p l e R s m args below meth c H locs cells slots Q (F0 m pc ls (.int (nI x) :: rest)) :=
  lv_if_eq hx hb hdg ht (fun h => kt ((sp_nz h1).mp h)) (fun h => kf (fun z => h ((sp_nz h1).mpr z)))
theorem sp_ifn (hx : p.tables.exec = Jvm.exec) (hb : c.code = cc) {x : Nat} {off : Int} {tgt : Nat} (h1 : x < 2 ^ 31) (hdg : decode cc pc = .ok (.ifCond .ne off, 3)) (ht : (pc : Int) + off = (tgt : Int))
    (kt : x ≠ 0 → W p l e R s m args below meth c H locs cells slots Q (F0 m tgt ls rest)) (kf : x = 0 → W p l e R s m args below meth c H locs cells slots Q (F0 m (pc + 3) ls rest)) : W p l e R s m args below meth c H locs cells slots Q (F0 m pc ls (.int (nI x) :: rest)) :=
  lv_if_ne hx hb hdg ht (fun h => kt (fun z => h ((sp_nz h1).mpr z))) (fun h => kf ((sp_nz h1).mp h))
theorem sp_ngt {x : Nat} (h : x < 2 ^ 31) : (0 : Int32) < nI x ↔ 0 < x := by
  rw [← nI_0]
  exact nI_ltI (by decide) h
theorem sp_nle {x : Nat} (h : x < 2 ^ 31) : nI x ≤ 0 ↔ x = 0 := by
  rw [← nI_0, nI_leI h (by decide)]
  omega
theorem sp_ifg (hx : p.tables.exec = Jvm.exec) (hb : c.code = cc) {x : Nat} {off : Int} {tgt : Nat} (h1 : x < 2 ^ 31) (hdg : decode cc pc = .ok (.ifCond .gt off, 3)) (ht : (pc : Int) + off = (tgt : Int))
    (kt : 0 < x → W p l e R s m args below meth c H locs cells slots Q (F0 m tgt ls rest)) (kf : x = 0 → W p l e R s m args below meth c H locs cells slots Q (F0 m (pc + 3) ls rest)) : W p l e R s m args below meth c H locs cells slots Q (F0 m pc ls (.int (nI x) :: rest)) :=
  lv_if_gt hx hb hdg ht (fun h => kt ((sp_ngt h1).mp h)) (fun h => kf (by have := mt (sp_ngt h1).mpr h; omega))
theorem sp_ifl (hx : p.tables.exec = Jvm.exec) (hb : c.code = cc) {x : Nat} {off : Int} {tgt : Nat} (h1 : x < 2 ^ 31) (hdg : decode cc pc = .ok (.ifCond .le off, 3)) (ht : (pc : Int) + off = (tgt : Int))
    (kt : x = 0 → W p l e R s m args below meth c H locs cells slots Q (F0 m tgt ls rest)) (kf : 0 < x → W p l e R s m args below meth c H locs cells slots Q (F0 m (pc + 3) ls rest)) : W p l e R s m args below meth c H locs cells slots Q (F0 m pc ls (.int (nI x) :: rest)) :=
  lv_if_le hx hb hdg ht (fun h => kt ((sp_nle h1).mp h)) (fun h => kf (by have := mt (sp_nle h1).mpr h; omega))
end SPK
section SPA
variable {p : Program} {l : Launch} {e : Env} {R : Room} {s : State} {m : MethodId} {args : Array Value} {below : List Frame} {meth : Method} {c : Code} {H : Heap} {locs : List Loc} {cells slots : Nat} {Q : State → Prop}
variable {cc : ByteArray} {pc : Nat} {ls : Array Slot} {rest : List Value} {D : va_G} {A : Nat → Prop} {a : Nat} {tys : List (ClassId × FieldType)} {ws : va_W} {H0 : Heap}
theorem sp_iald (hx : p.tables.exec = Jvm.exec) (hb : c.code = cc) (hK : va_K D vwCl tys s) (hP : va_P D vwCl ws H) (q0 : Nat) {cA : ClassId} {n : Nat} {f : Nat → Int32} (ha : ws[q0]? = some (a, .inl (cA, n, .inl f))) (ht : tys[0]? = some (cA, .int)) (hn : n < 2 ^ 31) {i : Nat} (hi : i < n) {v : Int32} (hv : f i = v) (hdg : decode cc pc = .ok (.iaload, 1))
    (kk : W p l e R s m args below meth c H locs cells slots Q (F0 m (pc + 1) ls (.int v :: rest))) : W p l e R s m args below meth c H locs cells slots Q (F0 m pc ls (.int (nI i) :: .ref a :: rest)) := by
  refine va_iald hx hb hK hP q0 0 ha ht (vp_in_nI hi hn) hdg ?_
  rw [nI_clamp (Nat.lt_trans hi hn), hv]
  exact kk
theorem sp_lald (hx : p.tables.exec = Jvm.exec) (hb : c.code = cc) (hK : va_K D vwCl tys s) (hP : va_P D vwCl ws H) (q0 : Nat) {cA : ClassId} {n : Nat} {f : Nat → Int64} (ha : ws[q0]? = some (a, .inl (cA, n, .inr (.inl f)))) (ht : tys[0]? = some (cA, .long)) (hn : n < 2 ^ 31) {i : Nat} (hi : i < n) {v : Int64} (hv : f i = v) (hdg : decode cc pc = .ok (.laload, 1))
    (kk : W p l e R s m args below meth c H locs cells slots Q (F0 m (pc + 1) ls (.long v :: rest))) : W p l e R s m args below meth c H locs cells slots Q (F0 m pc ls (.int (nI i) :: .ref a :: rest)) := by
  refine va_lald hx hb hK hP q0 0 ha ht (vp_in_nI hi hn) hdg ?_
  rw [nI_clamp (Nat.lt_trans hi hn), hv]
  exact kk
theorem sp_iast (hx : p.tables.exec = Jvm.exec) (hb : c.code = cc) (hK : va_K D vwCl tys s) (hI : sp_in D A H0 ws H locs) (q0 : Nat) {cA : ClassId} {n : Nat} {f : Nat → Int32} (ha : ws[q0]? = some (a, .inl (cA, n, .inl f))) (ht : tys[0]? = some (cA, .int)) (hn : n < 2 ^ 31) {i : Nat} (hi : i < n) {x : Int32} (hdg : decode cc pc = .ok (.iastore, 1))
    (kk : ∀ (H1 : Heap) (locs1 : List Loc) (f1 : Nat → Int32), f1 = upd f i x → sp_in D A H0 (ws.set q0 (a, .inl (cA, n, .inl f1))) H1 locs1 → W p l e R s m args below meth c H1 locs1 cells slots Q (F0 m (pc + 1) ls rest)) : W p l e R s m args below meth c H locs cells slots Q (F0 m pc ls (.int x :: .int (nI i) :: .ref a :: rest)) := by
  refine va_iast hx hb hK hI.1 hI.2.1 hI.2.2 q0 0 ha ht (vp_in_nI hi hn) hdg ?_
  rw [nI_clamp (Nat.lt_trans hi hn)]
  exact fun H1 locs1 h1 h2 h3 => kk H1 locs1 _ rfl ⟨h1, h2, h3⟩
theorem sp_last (hx : p.tables.exec = Jvm.exec) (hb : c.code = cc) (hK : va_K D vwCl tys s) (hI : sp_in D A H0 ws H locs) (q0 : Nat) {cA : ClassId} {n : Nat} {f : Nat → Int64} (ha : ws[q0]? = some (a, .inl (cA, n, .inr (.inl f)))) (ht : tys[0]? = some (cA, .long)) (hn : n < 2 ^ 31) {i : Nat} (hi : i < n) {x : Int64} (hdg : decode cc pc = .ok (.lastore, 1))
    (kk : ∀ (H1 : Heap) (locs1 : List Loc) (f1 : Nat → Int64), f1 = vp_updL f i x → sp_in D A H0 (ws.set q0 (a, .inl (cA, n, .inr (.inl f1)))) H1 locs1 → W p l e R s m args below meth c H1 locs1 cells slots Q (F0 m (pc + 1) ls rest)) : W p l e R s m args below meth c H locs cells slots Q (F0 m pc ls (.long x :: .int (nI i) :: .ref a :: rest)) := by
  refine va_last hx hb hK hI.1 hI.2.1 hI.2.2 q0 0 ha ht (vp_in_nI hi hn) hdg ?_
  rw [nI_clamp (Nat.lt_trans hi hn)]
  exact fun H1 locs1 h1 h2 h3 => kk H1 locs1 _ rfl ⟨h1, h2, h3⟩
theorem sp_get0 {nL idx : Nat} {fs : List Value} {v : Value} (F : CallFix p m c cc nL s args lw_all RX0) (hK : va_K D vwCl tys s) (hP : va_P D vwCl ws H) (he : ws[0]? = some (a, .inr (0, fs))) (k : Nat) (hk : k < 15) (hlink : Cond.fieldLink RX0 idx RX0 (TX0 k).2.1 (TX0 k).2.2.1 ∈ lw_all) (h1 : (TX0 k).1 = RX0) (hv : fs[k]? = some v) (hdg : decode cc pc = .ok (.getfield idx, 3))
    (kk : W p l e R s m args below meth c H locs cells slots Q (F0 m (pc + 3) ls (v :: rest))) : W p l e R s m args below meth c H locs cells slots Q (F0 m pc ls (.ref a :: rest)) :=
  va_get (D := D) (ci := 0) (C := RX0) (T := TX0) (N := 15) F.1 F.2.1 F.2.2.2.2 in_X0 F.2.2.2.1 hK hP 0 he rfl k hk (F.2.2.2.2 _ hlink) (fun _ h => by rw [h1] at h; exact h) hv hdg kk
theorem sp_put0 {nL idx : Nat} {fs : List Value} {v : Value} {ty : FieldType} (F : CallFix p m c cc nL s args lw_all RX0) (hK : va_K D vwCl tys s) (hI : sp_in D A H0 ws H locs) (he : ws[0]? = some (a, .inr (0, fs))) (k : Nat) (hk : k < 15) (hlink : Cond.fieldLink RX0 idx RX0 (TX0 k).2.1 (TX0 k).2.2.1 ∈ lw_all) (h1 : (TX0 k).1 = RX0) (hfin : (TX0 k).2.2.2 = false) (hd : parseFieldDescriptor (TX0 k).2.2.1 = some ty) (hn : narrow ty v = v) (hfit : fits ty v = true) (hl : k < fs.length) (hdg : decode cc pc = .ok (.putfield idx, 3))
    (kk : ∀ (H1 : Heap) (locs1 : List Loc), sp_in D A H0 (ws.set 0 (a, .inr (0, fs.set k v))) H1 locs1 → W p l e R s m args below meth c H1 locs1 cells slots Q (F0 m (pc + 3) ls rest)) : W p l e R s m args below meth c H locs cells slots Q (F0 m pc ls (v :: .ref a :: rest)) :=
  va_put (D := D) (ci := 0) (C := RX0) (T := TX0) (N := 15) F.1 F.2.1 F.2.2.2.2 in_X0 tyX0 tyX0_ok nmX0 F.2.2.2.1 hK hI.1 hI.2.1 hI.2.2 0 he rfl k hk (F.2.2.2.2 _ hlink) (fun _ h => by rw [h1] at h; exact h) hfin hd hn hfit hl hdg (fun H1 locs1 h1 h2 h3 => kk H1 locs1 ⟨h1, h2, h3⟩)
theorem sp_get1 {nL idx : Nat} {fs : List Value} {v : Value} (F : CallFix p m c cc nL s args lw_all RX1) (hK : va_K D vwCl tys s) (hP : va_P D vwCl ws H) (he : ws[0]? = some (a, .inr (1, fs))) (k : Nat) (hk : k < 9) (hlink : Cond.fieldLink RX1 idx RX1 (TX1 k).2.1 (TX1 k).2.2.1 ∈ lw_all) (h1 : (TX1 k).1 = RX1) (hv : fs[k]? = some v) (hdg : decode cc pc = .ok (.getfield idx, 3))
    (kk : W p l e R s m args below meth c H locs cells slots Q (F0 m (pc + 3) ls (v :: rest))) : W p l e R s m args below meth c H locs cells slots Q (F0 m pc ls (.ref a :: rest)) :=
  va_get (D := D) (ci := 1) (C := RX1) (T := TX1) (N := 9) F.1 F.2.1 F.2.2.2.2 in_X1 F.2.2.2.1 hK hP 0 he rfl k hk (F.2.2.2.2 _ hlink) (fun _ h => by rw [h1] at h; exact h) hv hdg kk
theorem sp_put1 {nL idx : Nat} {fs : List Value} {v : Value} {ty : FieldType} (F : CallFix p m c cc nL s args lw_all RX1) (hK : va_K D vwCl tys s) (hI : sp_in D A H0 ws H locs) (he : ws[0]? = some (a, .inr (1, fs))) (k : Nat) (hk : k < 9) (hlink : Cond.fieldLink RX1 idx RX1 (TX1 k).2.1 (TX1 k).2.2.1 ∈ lw_all) (h1 : (TX1 k).1 = RX1) (hfin : (TX1 k).2.2.2 = false) (hd : parseFieldDescriptor (TX1 k).2.2.1 = some ty) (hn : narrow ty v = v) (hfit : fits ty v = true) (hl : k < fs.length) (hdg : decode cc pc = .ok (.putfield idx, 3))
    (kk : ∀ (H1 : Heap) (locs1 : List Loc), sp_in D A H0 (ws.set 0 (a, .inr (1, fs.set k v))) H1 locs1 → W p l e R s m args below meth c H1 locs1 cells slots Q (F0 m (pc + 3) ls rest)) : W p l e R s m args below meth c H locs cells slots Q (F0 m pc ls (v :: .ref a :: rest)) :=
  va_put (D := D) (ci := 1) (C := RX1) (T := TX1) (N := 9) F.1 F.2.1 F.2.2.2.2 in_X1 tyX1 tyX1_ok nmX1 F.2.2.2.1 hK hI.1 hI.2.1 hI.2.2 0 he rfl k hk (F.2.2.2.2 _ hlink) (fun _ h => by rw [h1] at h; exact h) hfin hd hn hfit hl hdg (fun H1 locs1 h1 h2 h3 => kk H1 locs1 ⟨h1, h2, h3⟩)
end SPA
section SPC
variable {p : Program} {l : Launch} {e : Env} {R : Room} {s : State} {m : MethodId} {args : Array Value} {below : List Frame} {meth : Method} {c : Code} {H : Heap} {locs : List Loc} {Q : State → Prop}
variable {cc bytes : ByteArray} {pc : Nat} {ls : Array Slot} {rest st0 As : List Value} {D : va_G} {A : Nat → Prop} {a : Nat} {tys : List (ClassId × FieldType)} {ws : va_W} {H0 : Heap} {y : MethodName} {maxL nL index : Nat} {rm : Room} {own C : String} {T : u_T} {N ci : Nat} {fs : List Value}
theorem sp_blind {av : List Value} {sz : Nat} : FrameBlind (va_Pc av (sp_pre D tys sz ws)) := fun a U g mk q => by
  obtain ⟨q0, q1, qP, qK, qD⟩ := q
  exact ⟨q0, q1, qP, va_K.moved (u := U) (U := U.calling g mk a) (Vm.Alike.refl U.vm) qK, qD⟩
theorem sp_hF (hI : sp_in D A H0 ws H locs) (hA : ∀ q, H0.size ≤ q → A q) : ∀ q, va_A ws H.size q → A q := by
  intro q h
  rcases h with ⟨k, e, h⟩ | h
  · exact hI.2.1.2 k (q, e) h
  · exact hA q (Nat.le_trans hI.2.2.1 h)
/-- a void method of the same object, on the same world -/
theorem sp_callV {X : Type} {post : X → Prop} {w : X → va_W} (n : Nat) (F : CallFix p m c cc nL s args lw_all own) (hM : Met l y (ws_ y bytes maxL none) rm (va_Pc (.ref a :: As) (sp_pre D tys H.size ws)) (va_Qv post (sp_end D tys (va_A ws H.size) w) (va_A ws H.size)) 0 0 (va_A ws H.size))
    (hG : GoodIn lw_all (wsV own index C y (ws_ y bytes maxL none))) (hrc : rm.cells = 0) (hrs : rm.slots = 0)
    (hd : y.cls = C ∧ y.cls ≠ "java/lang/invoke/MethodHandle" ∧ y.cls ≠ "java/lang/invoke/VarHandle" ∧ (parseMethodDescriptor y.desc).map (fun d => d.parameters.length) = some n) (hR : rm.frames + 1 ≤ R.frames ∧ 8 + (maxL + 11) + rm.locals ≤ R.locals)
    (hK : va_K D vwCl tys s) (hI : sp_in D A H0 ws H locs) (hA : ∀ q, H0.size ≤ q → A q) (hc : vwCl[ci]? = some (C, T, N)) (he : ws[0]? = some (a, .inr (ci, fs)))
    (hn : As.length = n) (hsize : ls.size = nL) (hst : st0 = As.reverse ++ .ref a :: rest) (hW : (rest.map fun v => v.category).sum ≤ 8) (hdg : decode cc pc = .ok (.invokevirtual index, 3))
    (kk : ∀ (x : X) (H1 : Heap) (locs1 : List Loc), post x → sp_in D A H0 (w x) H1 locs1 → W p l e R s m args below meth c H1 locs1 0 0 Q (F0 m (pc + 3) ls rest)) : W p l e R s m args below meth c H locs 0 0 Q (F0 m pc ls st0) := by
  have hF := sp_hF hI hA
  refine va_callv (va_runV (As := As) (rest := rest) F hM (cwV n F.2.2.2.2 hG rfl hrc hrs hd hR) ⟨sp_blind, va_recv hK hI.1 hc he, fun U hU hW => ⟨rfl, by rw [hU], by rw [hU]; exact hI.1, va_K.moved hW.alike hK, hI.2.1.weaken (fun _ _ _ _ => trivial)⟩⟩ rfl hn hsize hst (lv_room hW) hdg ⟨Nat.zero_le _, Nat.zero_le _⟩) hI.2.2 (fun q _ h => hF q h) hF (fun x t H1 locs1 ht hvm hp hB hz hk hS1 => ?_)
  obtain ⟨hP1, hK1, hD1⟩ := hB
  rw [ht] at hP1
  exact kk x H1 locs1 hp ⟨hP1, hD1.weaken (fun _ q _ h => hF q.1 h), hS1⟩
/-- an int method of the same object, on the same world -/
theorem sp_callVi {X : Type} {post : Int32 → X → Prop} {w : X → va_W} {ret : Option FieldType} (n : Nat) (F : CallFix p m c cc nL s args lw_all own) (hM : Met l y (ws_ y bytes maxL ret) rm (va_Pc (.ref a :: As) (sp_pre D tys H.size ws)) (va_Qi post (sp_end D tys (va_A ws H.size) w) (va_A ws H.size)) 0 0 (va_A ws H.size))
    (hG : GoodIn lw_all (wsV own index C y (ws_ y bytes maxL ret))) (hrc : rm.cells = 0) (hrs : rm.slots = 0)
    (hd : y.cls = C ∧ y.cls ≠ "java/lang/invoke/MethodHandle" ∧ y.cls ≠ "java/lang/invoke/VarHandle" ∧ (parseMethodDescriptor y.desc).map (fun d => d.parameters.length) = some n) (hR : rm.frames + 1 ≤ R.frames ∧ 8 + (maxL + 11) + rm.locals ≤ R.locals)
    (hK : va_K D vwCl tys s) (hI : sp_in D A H0 ws H locs) (hA : ∀ q, H0.size ≤ q → A q) (hc : vwCl[ci]? = some (C, T, N)) (he : ws[0]? = some (a, .inr (ci, fs)))
    (hn : As.length = n) (hsize : ls.size = nL) (hst : st0 = As.reverse ++ .ref a :: rest) (hW : (rest.map fun v => v.category).sum ≤ 8) (hdg : decode cc pc = .ok (.invokevirtual index, 3))
    (kk : ∀ (r : Int32) (x : X) (H1 : Heap) (locs1 : List Loc), post r x → sp_in D A H0 (w x) H1 locs1 → W p l e R s m args below meth c H1 locs1 0 0 Q (F0 m (pc + 3) ls (.int r :: rest))) : W p l e R s m args below meth c H locs 0 0 Q (F0 m pc ls st0) := by
  have hF := sp_hF hI hA
  refine va_calli (va_runV (As := As) (rest := rest) F hM (cwV n F.2.2.2.2 hG rfl hrc hrs hd hR) ⟨sp_blind, va_recv hK hI.1 hc he, fun U hU hW => ⟨rfl, by rw [hU], by rw [hU]; exact hI.1, va_K.moved hW.alike hK, hI.2.1.weaken (fun _ _ _ _ => trivial)⟩⟩ rfl hn hsize hst (lv_room hW) hdg ⟨Nat.zero_le _, Nat.zero_le _⟩) hI.2.2 (fun q _ h => hF q h) hF (fun r x t H1 locs1 ht hvm hp hB hz hk hS1 => ?_)
  obtain ⟨hP1, hK1, hD1⟩ := hB
  rw [ht] at hP1
  exact kk r x H1 locs1 hp ⟨hP1, hD1.weaken (fun _ q _ h => hF q.1 h), hS1⟩
theorem sp_kept {H1 : Heap} {locs1 : List Loc} (hI : sp_in D A H0 ws H locs) (hk : ∀ q : Nat, q < H.size → ¬ False → H1[q]? = H[q]?) (hS : va_S A H0 H1 locs1) : sp_in D A H0 ws H1 locs1 := ⟨hI.1.kept (fun k q h => hk q.1 (hI.1 k q h).lt (fun z => z)), hI.2.1, hS⟩
/-- a static method that answers an int and touches nothing -/
theorem sp_callSi {post : Int32 → Unit → Prop} {ret : Option FieldType} (n : Nat) (F : CallFix p m c cc nL s args lw_all own) (hM : Met l y (ws_ y bytes maxL ret) rm (va_Pc As (fun _ => True)) (va_Qi post (fun _ _ => True) (fun _ => False)) 0 0 (fun _ => False))
    (hG : GoodIn lw_all (va_wsS own index y (ws_ y bytes maxL ret))) (hrc : rm.cells = 0) (hrs : rm.slots = 0)
    (hd : y.cls ≠ "java/lang/invoke/MethodHandle" ∧ y.cls ≠ "java/lang/invoke/VarHandle" ∧ (parseMethodDescriptor y.desc).map (fun d => d.parameters.length) = some n) (hR : rm.frames + 1 ≤ R.frames ∧ 8 + (maxL + 11) + rm.locals ≤ R.locals)
    (hI : sp_in D A H0 ws H locs) (hn : As.length = n) (hsize : ls.size = nL) (hst : st0 = As.reverse ++ rest) (hW : (rest.map fun v => v.category).sum ≤ 8) (hdg : decode cc pc = .ok (.invokestatic index, 3))
    (kk : ∀ (r : Int32) (H1 : Heap) (locs1 : List Loc), post r () → sp_in D A H0 ws H1 locs1 → W p l e R s m args below meth c H1 locs1 0 0 Q (F0 m (pc + 3) ls (.int r :: rest))) : W p l e R s m args below meth c H locs 0 0 Q (F0 m pc ls st0) :=
  va_calli (va_runS (As := As) (rest := rest) F hM (va_cwS n F.2.2.2.2 hG rfl hrc hrs hd hR) ⟨fun a U g mk q => ⟨q.1, trivial⟩, fun U hU hW => ⟨rfl, trivial⟩⟩ rfl hn hsize hst (lv_room hW) hdg ⟨Nat.zero_le _, Nat.zero_le _⟩) hI.2.2 (fun q _ h => h.elim) (fun q h => h.elim) (fun r x t H1 locs1 ht hvm hp hB hz hk hS1 => kk r H1 locs1 hp (sp_kept hI hk hS1))
/-- a static method that answers a long and touches nothing -/
theorem sp_callSl {post : Int64 → Unit → Prop} {ret : Option FieldType} (n : Nat) (F : CallFix p m c cc nL s args lw_all own) (hM : Met l y (ws_ y bytes maxL ret) rm (va_Pc As (fun _ => True)) (va_Ql post (fun _ _ => True) (fun _ => False)) 0 0 (fun _ => False))
    (hG : GoodIn lw_all (va_wsS own index y (ws_ y bytes maxL ret))) (hrc : rm.cells = 0) (hrs : rm.slots = 0)
    (hd : y.cls ≠ "java/lang/invoke/MethodHandle" ∧ y.cls ≠ "java/lang/invoke/VarHandle" ∧ (parseMethodDescriptor y.desc).map (fun d => d.parameters.length) = some n) (hR : rm.frames + 1 ≤ R.frames ∧ 8 + (maxL + 11) + rm.locals ≤ R.locals)
    (hI : sp_in D A H0 ws H locs) (hn : As.length = n) (hsize : ls.size = nL) (hst : st0 = As.reverse ++ rest) (hW : (rest.map fun v => v.category).sum ≤ 8) (hdg : decode cc pc = .ok (.invokestatic index, 3))
    (kk : ∀ (r : Int64) (H1 : Heap) (locs1 : List Loc), post r () → sp_in D A H0 ws H1 locs1 → W p l e R s m args below meth c H1 locs1 0 0 Q (F0 m (pc + 3) ls (.long r :: rest))) : W p l e R s m args below meth c H locs 0 0 Q (F0 m pc ls st0) :=
  va_calll (va_runS (As := As) (rest := rest) F hM (va_cwS n F.2.2.2.2 hG rfl hrc hrs hd hR) ⟨fun a U g mk q => ⟨q.1, trivial⟩, fun U hU hW => ⟨rfl, trivial⟩⟩ rfl hn hsize hst (lv_room hW) hdg ⟨Nat.zero_le _, Nat.zero_le _⟩) hI.2.2 (fun q _ h => h.elim) (fun q h => h.elim) (fun r x t H1 locs1 ht hvm hp hB hz hk hS1 => kk r H1 locs1 hp (sp_kept hI hk hS1))
end SPC
end
section
/-! ===== Int32 by its bits: bt x i ===== -/
def bt (x : Int32) (i : Nat) : Bool := x.toBitVec.getLsbD i
theorem b_ext {x y : Int32} (h : ∀ i, i < 32 → bt x i = bt y i) : x = y := Int32.toBitVec_inj.mp (BitVec.eq_of_getLsbD_eq (fun i hi => h i hi))
theorem b_or (x y : Int32) (i : Nat) : bt (x ||| y) i = (bt x i || bt y i) := by unfold bt; rw [Int32.toBitVec_or, BitVec.getLsbD_or]
theorem b_and (x y : Int32) (i : Nat) : bt (x &&& y) i = (bt x i && bt y i) := by unfold bt; rw [Int32.toBitVec_and, BitVec.getLsbD_and]
theorem b_xor (x y : Int32) (i : Nat) : bt (x ^^^ y) i = (bt x i ^^ bt y i) := by unfold bt; rw [Int32.toBitVec_xor, BitVec.getLsbD_xor]
theorem b_big {x : Int32} {i : Nat} (h : 32 ≤ i) : bt x i = false := BitVec.getLsbD_of_ge _ _ h
theorem b_255 (i : Nat) : bt 255 i = decide (i < 8) := by
  rcases Nat.lt_or_ge i 32 with h | h
  · exact (by decide +kernel : ∀ i, i < 32 → bt 255 i = decide (i < 8)) i h
  · rw [b_big h, decide_eq_false (by omega)]
theorem b_65535 (i : Nat) : bt 65535 i = decide (i < 16) := by
  rcases Nat.lt_or_ge i 32 with h | h
  · exact (by decide +kernel : ∀ i, i < 32 → bt 65535 i = decide (i < 16)) i h
  · rw [b_big h, decide_eq_false (by omega)]
theorem b_m1 : ∀ i, i < 32 → bt (-1) i = true := by decide +kernel
theorem b_0 (i : Nat) : bt 0 i = false := BitVec.getLsbD_zero
theorem s_l : ∀ n, n < 32 → ((nI n &&& 31).toBitVec.smod 32).toNat = n := by decide +kernel
theorem s_u : ∀ n, n < 32 → (((nI n).toUInt32 &&& Int32.toUInt32 31).toBitVec % 32).toNat = n := by decide +kernel
theorem b_shl (n : Nat) (hn : n < 32) (x : Int32) {i : Nat} (hi : i < 32) : bt (x <<< (nI n &&& 31)) i = (decide (n ≤ i) && bt x (i - n)) := by
  unfold bt
  rw [Int32.toBitVec_shiftLeft]
  show (x.toBitVec <<< ((nI n &&& 31).toBitVec.smod 32).toNat).getLsbD i = _
  rw [s_l n hn, BitVec.getLsbD_shiftLeft]
  rcases Nat.lt_or_ge i n with h | h
  · simp [h, Nat.not_le.mpr h]
  · simp [hi, h, Nat.not_lt.mpr h]
theorem b_ushr (n : Nat) (hn : n < 32) (x : Int32) (i : Nat) : bt ((x.toUInt32 >>> ((nI n).toUInt32 &&& Int32.toUInt32 31)).toInt32) i = bt x (n + i) := by
  show (x.toUInt32 >>> ((nI n).toUInt32 &&& Int32.toUInt32 31)).toBitVec.getLsbD i = x.toUInt32.toBitVec.getLsbD (n + i)
  rw [UInt32.toBitVec_shiftRight]
  show (x.toUInt32.toBitVec >>> (((nI n).toUInt32 &&& Int32.toUInt32 31).toBitVec % 32).toNat).getLsbD i = _
  rw [s_u n hn, BitVec.getLsbD_ushiftRight]
theorem b_sshr (n : Nat) (hn : n < 32) (x : Int32) {i : Nat} (hi : i < 32) : bt (x >>> (nI n &&& 31)) i = if n + i < 32 then bt x (n + i) else bt x 31 := by
  unfold bt
  rw [Int32.toBitVec_shiftRight]
  show (x.toBitVec.sshiftRight ((nI n &&& 31).toBitVec.smod 32).toNat).getLsbD i = _
  rw [s_l n hn, BitVec.getLsbD_sshiftRight, BitVec.msb_eq_getLsbD_last]
  simp [hi]
theorem b_shl8 (x : Int32) {i : Nat} (hi : i < 32) : bt (x <<< ((8 : Int32) &&& 31)) i = (decide (8 ≤ i) && bt x (i - 8)) := b_shl 8 (by omega) x hi
theorem b_shl16 (x : Int32) {i : Nat} (hi : i < 32) : bt (x <<< ((16 : Int32) &&& 31)) i = (decide (16 ≤ i) && bt x (i - 16)) := b_shl 16 (by omega) x hi
theorem b_shl24 (x : Int32) {i : Nat} (hi : i < 32) : bt (x <<< ((24 : Int32) &&& 31)) i = (decide (24 ≤ i) && bt x (i - 24)) := b_shl 24 (by omega) x hi
theorem b_sshr8 (x : Int32) {i : Nat} (hi : i < 32) : bt (x >>> ((8 : Int32) &&& 31)) i = if 8 + i < 32 then bt x (8 + i) else bt x 31 := b_sshr 8 (by omega) x hi
theorem nx_and (a b : Nat) : nI a &&& nI b = nI (a &&& b) := by
  apply Int32.toBitVec_inj.1
  show BitVec.ofNat 32 a &&& BitVec.ofNat 32 b = BitVec.ofNat 32 (a &&& b)
  apply BitVec.eq_of_getLsbD_eq
  intro i hi
  simp [hi]
theorem nx_xor (a b : Nat) : nI a ^^^ nI b = nI (a ^^^ b) := by
  apply Int32.toBitVec_inj.1
  show BitVec.ofNat 32 a ^^^ BitVec.ofNat 32 b = BitVec.ofNat 32 (a ^^^ b)
  apply BitVec.eq_of_getLsbD_eq
  intro i hi
  simp [hi]
/-! ===== lN n to 2^64: shifts, and, or, masks, one bit ===== -/
theorem wb_tb (n : Nat) : (lN n).toBitVec = BitVec.ofNat 64 n := rfl
theorem wb_inj {a b : Int64} (h : a.toBitVec = b.toBitVec) : a = b := Int64.toBitVec_inj.mp h
theorem wb_tn {n : Nat} (h : n < 2 ^ 64) : (lN n).toBitVec.toNat = n := by rw [wb_tb, BitVec.toNat_ofNat, Nat.mod_eq_of_lt h]
theorem wb_of (x : Int64) : ∃ n, n < 2 ^ 64 ∧ x = lN n := ⟨x.toBitVec.toNat, x.toBitVec.isLt, wb_inj (by rw [wb_tb]; simp)⟩
theorem wb_of32 (x : Int32) : ∃ n, n < 2 ^ 32 ∧ x = nI n := ⟨x.toBitVec.toNat, x.toBitVec.isLt, Int32.toBitVec_inj.mp (by show _ = BitVec.ofNat 32 _; simp)⟩
theorem wb_c : ∀ k, k < 64 → ((nI k).toInt64 &&& 63) = lN k := by decide +kernel
theorem wb_cu : ∀ k, k < 64 → ((nI k).toInt64.toUInt64 &&& Int64.toUInt64 63) = UInt64.ofNat k := by decide +kernel
theorem wb_sm : ∀ k, k < 64 → (BitVec.ofNat 64 k).smod 64 = BitVec.ofNat 64 k := by decide +kernel
theorem wb_pw {a b : Nat} (h : a ≤ b) : 2 ^ b = 2 ^ a * 2 ^ (b - a) := by rw [← Nat.pow_add]; congr 1; omega
theorem wb_lt2 {a b : Nat} (h : a < b) : 2 ^ a < 2 ^ b := Nat.pow_lt_pow_right (by decide) h
theorem wb_mod (n : Nat) : lN n = lN (n % 2 ^ 64) := wb_inj (by rw [wb_tb, wb_tb]; apply BitVec.eq_of_toNat_eq; rw [BitVec.toNat_ofNat, BitVec.toNat_ofNat, Nat.mod_mod])
theorem wb_shr {n k : Nat} (hn : n < 2 ^ 64) (hk : k < 64) : ((lN n).toUInt64 >>> ((nI k).toInt64.toUInt64 &&& Int64.toUInt64 63)).toInt64 = lN (n / 2 ^ k) := by
  rw [wb_cu k hk]
  apply wb_inj
  apply BitVec.eq_of_toNat_eq
  show ((lN n).toUInt64 >>> UInt64.ofNat k).toNat = (BitVec.ofNat 64 _).toNat
  have h1 : (UInt64.ofNat k).toNat = k := by
    show (BitVec.ofNat 64 k).toNat = k
    rw [BitVec.toNat_ofNat, Nat.mod_eq_of_lt (by omega)]
  have h2 : (lN n).toUInt64.toNat = n := wb_tn hn
  rw [UInt64.toNat_shiftRight, h1, h2, Nat.mod_eq_of_lt hk, Nat.shiftRight_eq_div_pow, BitVec.toNat_ofNat, Nat.mod_eq_of_lt (Nat.lt_of_le_of_lt (Nat.div_le_self _ _) hn)]
theorem wb_shl (n : Nat) {k : Nat} (hk : k < 64) : lN n <<< ((nI k).toInt64 &&& 63) = lN (n * 2 ^ k) := by
  rw [wb_c k hk]
  apply wb_inj
  rw [Int64.toBitVec_shiftLeft, wb_tb, wb_tb, wb_tb, wb_sm k hk]
  apply BitVec.eq_of_toNat_eq
  rw [BitVec.shiftLeft_eq', BitVec.toNat_shiftLeft, BitVec.toNat_ofNat, BitVec.toNat_ofNat, BitVec.toNat_ofNat, Nat.mod_eq_of_lt (show k < 2 ^ 64 by omega), Nat.shiftLeft_eq, Nat.mul_mod, Nat.mod_mod, ← Nat.mul_mod]
theorem wb_and {a b : Nat} (ha : a < 2 ^ 64) (hb : b < 2 ^ 64) : lN a &&& lN b = lN (a &&& b) := by
  apply wb_inj
  rw [Int64.toBitVec_and, wb_tb, wb_tb, wb_tb]
  apply BitVec.eq_of_toNat_eq
  rw [BitVec.toNat_and, BitVec.toNat_ofNat, BitVec.toNat_ofNat, BitVec.toNat_ofNat, Nat.mod_eq_of_lt ha, Nat.mod_eq_of_lt hb, Nat.mod_eq_of_lt (Nat.and_lt_two_pow _ hb)]
theorem wb_or {a b : Nat} (ha : a < 2 ^ 64) (hb : b < 2 ^ 64) : lN a ||| lN b = lN (a ||| b) := by
  apply wb_inj
  rw [Int64.toBitVec_or, wb_tb, wb_tb, wb_tb]
  apply BitVec.eq_of_toNat_eq
  rw [BitVec.toNat_or, BitVec.toNat_ofNat, BitVec.toNat_ofNat, BitVec.toNat_ofNat, Nat.mod_eq_of_lt ha, Nat.mod_eq_of_lt hb, Nat.mod_eq_of_lt (Nat.or_lt_two_pow ha hb)]
theorem wb_mask {n k : Nat} (hn : n < 2 ^ 64) (hk : k < 64) : lN n &&& lN (2 ^ k - 1) = lN (n % 2 ^ k) := by
  rw [wb_and hn (by have := wb_lt2 hk; omega), Nat.and_two_pow_sub_one_eq_mod]
theorem wb_a1 {n : Nat} (hn : n < 2 ^ 64) : lN n &&& 1 = lN (n % 2) := wb_mask (k := 1) hn (by decide)
theorem wb_bit {n k : Nat} (hn : n < 2 ^ 64) (hk : k < 64) : ((lN n).toUInt64 >>> ((nI k).toInt64.toUInt64 &&& Int64.toUInt64 63)).toInt64 &&& 1 = lN (n / 2 ^ k % 2) := by
  rw [wb_shr hn hk, wb_a1 (Nat.lt_of_le_of_lt (Nat.div_le_self _ _) hn)]
end
section
/-! the mathematical value: 25 lanes of 64 bits; both programs are tied to it -/
def sg_l (v : BitVec 64) : Int32 := Int32.ofBitVec (v.setWidth 32)
def sg_h (v : BitVec 64) : Int32 := Int32.ofBitVec ((v >>> 32).setWidth 32)
def sg_w (v : BitVec 64) : Int64 := Int64.ofBitVec v
def sg_rot (v : BitVec 64) (n : Nat) : BitVec 64 := v <<< n ||| v >>> (64 - n)
def sg_C (S : Nat → BitVec 64) (x : Nat) : BitVec 64 := S x ^^^ S (x + 5) ^^^ S (x + 10) ^^^ S (x + 15) ^^^ S (x + 20)
def sg_Cp (S : Nat → BitVec 64) (x : Nat) : Nat → BitVec 64
  | 0 => 0
  | j + 1 => sg_Cp S x j ^^^ S (x + 5 * j)
def sg_T (S : Nat → BitVec 64) (k : Nat) : BitVec 64 := S k ^^^ (sg_C S ((k + 4) % 5) ^^^ sg_rot (sg_C S ((k + 1) % 5)) 1)
def sg_src (j : Nat) : Nat := (j % 5 + 3 * (j / 5)) % 5 + 5 * (j % 5)
def sg_R (k : Nat) : Nat := ([0, 1, 62, 28, 27, 36, 44, 6, 55, 20, 3, 10, 43, 25, 39, 41, 45, 15, 21, 8, 18, 2, 61, 56, 14] : List Nat).getD k 0
def sg_M (S : Nat → BitVec 64) (j : Nat) : BitVec 64 := sg_rot (S (sg_src j)) (sg_R (sg_src j))
def sg_X (T : Nat → BitVec 64) (k : Nat) : BitVec 64 := T k ^^^ (~~~ (T (k - k % 5 + (k + 1) % 5)) &&& T (k - k % 5 + (k + 2) % 5))
def sg_put (S : Nat → BitVec 64) (P b : Nat) (k : Nat) : BitVec 64 := if k = P / 8 then S k ^^^ (BitVec.ofNat 64 b <<< (8 * (P % 8))) else S k
def sg_at (S : Nat → BitVec 64) (P : Nat) : Nat := ((S (P / 8)) >>> (8 * (P % 8))).toNat % 256
def sg_rate (w : Nat) : Nat := if w = 0 then 136 else 168
def sg_suf (w : Nat) : Nat := if w = 0 then 6 else 31
def sg_lim (w : Nat) : Int32 := if w = 0 then nI 32 else -1
/-- the lanes, as halves; as longs -/
def sg_LH (lo hi : Nat → Int32) (S : Nat → BitVec 64) : Prop := ∀ k, k < 25 → lo k = sg_l (S k) ∧ hi k = sg_h (S k)
def sg_MH (st : Nat → Int64) (S : Nat → BitVec 64) : Prop := ∀ k, k < 25 → st k = sg_w (S k)
theorem sg_lb (v : BitVec 64) {i : Nat} (hi : i < 32) : bt (sg_l v) i = v.getLsbD i := by
  unfold bt sg_l
  rw [Int32.toBitVec_ofBitVec, BitVec.getLsbD_setWidth]
  simp [hi]
theorem sg_hb (v : BitVec 64) {i : Nat} (hi : i < 32) : bt (sg_h v) i = v.getLsbD (32 + i) := by
  unfold bt sg_h
  rw [Int32.toBitVec_ofBitVec, BitVec.getLsbD_setWidth, BitVec.getLsbD_ushiftRight]
  simp [hi]
theorem sg_l_xor (a b : BitVec 64) : sg_l a ^^^ sg_l b = sg_l (a ^^^ b) := b_ext fun i hi => by rw [b_xor, sg_lb _ hi, sg_lb _ hi, sg_lb _ hi, BitVec.getLsbD_xor]
theorem sg_h_xor (a b : BitVec 64) : sg_h a ^^^ sg_h b = sg_h (a ^^^ b) := b_ext fun i hi => by rw [b_xor, sg_hb _ hi, sg_hb _ hi, sg_hb _ hi, BitVec.getLsbD_xor]
theorem sg_l_and (a b : BitVec 64) : sg_l a &&& sg_l b = sg_l (a &&& b) := b_ext fun i hi => by rw [b_and, sg_lb _ hi, sg_lb _ hi, sg_lb _ hi, BitVec.getLsbD_and]
theorem sg_h_and (a b : BitVec 64) : sg_h a &&& sg_h b = sg_h (a &&& b) := b_ext fun i hi => by rw [b_and, sg_hb _ hi, sg_hb _ hi, sg_hb _ hi, BitVec.getLsbD_and]
theorem sg_l_not (a : BitVec 64) : sg_l a ^^^ (-1) = sg_l (~~~ a) := b_ext fun i hi => by
  rw [b_xor, sg_lb _ hi, sg_lb _ hi, b_m1 i hi, BitVec.getLsbD_not]
  simp [show i < 64 by omega]
theorem sg_h_not (a : BitVec 64) : sg_h a ^^^ (-1) = sg_h (~~~ a) := b_ext fun i hi => by
  rw [b_xor, sg_hb _ hi, sg_hb _ hi, b_m1 i hi, BitVec.getLsbD_not]
  simp [show 32 + i < 64 by omega]
theorem sg_l_0 : sg_l 0 = nI 0 := by decide +kernel
theorem sg_h_0 : sg_h 0 = nI 0 := by decide +kernel
theorem sg_w_0 : sg_w 0 = 0 := by decide +kernel
theorem sg_w_xor (a b : BitVec 64) : sg_w a ^^^ sg_w b = sg_w (a ^^^ b) := wb_inj (by rw [Int64.toBitVec_xor]; rfl)
theorem sg_w_and (a b : BitVec 64) : sg_w a &&& sg_w b = sg_w (a &&& b) := wb_inj (by rw [Int64.toBitVec_and]; rfl)
theorem sg_w_or (a b : BitVec 64) : sg_w a ||| sg_w b = sg_w (a ||| b) := wb_inj (by rw [Int64.toBitVec_or]; rfl)
theorem sg_w_not (a : BitVec 64) : sg_w a ^^^ (-1) = sg_w (~~~ a) := wb_inj (by
  rw [Int64.toBitVec_xor]
  show a ^^^ (-1 : Int64).toBitVec = ~~~ a
  rw [show (-1 : Int64).toBitVec = BitVec.allOnes 64 from by decide +kernel, BitVec.xor_allOnes])
theorem sg_wl (v : BitVec 64) : sg_w v = lN v.toNat := wb_inj (by rw [wb_tb]; show v = _; simp)
theorem sg_rb (v : BitVec 64) (n : Nat) {i : Nat} (hi : i < 64) : (sg_rot v n).getLsbD i = ((decide (n ≤ i) && v.getLsbD (i - n)) || v.getLsbD (64 - n + i)) := by
  unfold sg_rot
  rw [BitVec.getLsbD_or, BitVec.getLsbD_shiftLeft, BitVec.getLsbD_ushiftRight]
  rcases Nat.lt_or_ge i n with h | h
  · simp [h, Nat.not_le.mpr h]
  · simp [hi, h, Nat.not_lt.mpr h]
theorem sg_big (v : BitVec 64) {i : Nat} (h : 64 ≤ i) : v.getLsbD i = false := BitVec.getLsbD_of_ge _ _ h
theorem sg_rot0 (v : BitVec 64) : sg_rot v 0 = v := BitVec.eq_of_getLsbD_eq fun i hi => by
  rw [sg_rb v 0 hi, sg_big v (i := 64 - 0 + i) (by omega)]
  simp
/-- what turned answers out of its two halves -/
def sg_tv (a b : Int32) (m : Nat) : Int32 := if m = 0 then a else a <<< (nI m &&& 31) ||| (b.toUInt32 >>> ((nI (32 - m)).toUInt32 &&& Int32.toUInt32 31)).toInt32
theorem sg_tvb (a b : Int32) {m : Nat} (hm : m < 32) {i : Nat} (hi : i < 32) : bt (sg_tv a b m) i = if m ≤ i then bt a (i - m) else bt b (32 - m + i) := by
  unfold sg_tv
  by_cases h : m = 0
  · subst h
    simp
  · rw [if_neg h, b_or, b_shl m hm a hi, b_ushr (32 - m) (by omega) b i]
    by_cases h2 : m ≤ i
    · rw [if_pos h2, b_big (x := b) (by omega)]
      simp [h2]
    · rw [if_neg h2]
      simp [h2]
theorem sg_tv1 (v : BitVec 64) {n : Nat} (h : n < 32) : sg_tv (sg_l v) (sg_h v) (n % 32) = sg_l (sg_rot v n) := b_ext fun i hi => by
  rw [Nat.mod_eq_of_lt h, sg_tvb _ _ h hi, sg_lb _ hi, sg_rb v n (by omega)]
  by_cases h2 : n ≤ i
  · rw [if_pos h2, sg_lb _ (by omega), sg_big v (i := 64 - n + i) (by omega)]
    simp [h2]
  · rw [if_neg h2, sg_hb _ (by omega), show 32 + (32 - n + i) = 64 - n + i by omega]
    simp [h2]
theorem sg_tv2 (v : BitVec 64) {n : Nat} (h : n < 32) : sg_tv (sg_h v) (sg_l v) (n % 32) = sg_h (sg_rot v n) := b_ext fun i hi => by
  rw [Nat.mod_eq_of_lt h, sg_tvb _ _ h hi, sg_hb _ hi, sg_rb v n (by omega), sg_big v (i := 64 - n + (32 + i)) (by omega), decide_eq_true (show n ≤ 32 + i by omega)]
  by_cases h2 : n ≤ i
  · rw [if_pos h2, sg_hb _ (by omega), show 32 + (i - n) = 32 + i - n by omega]
    simp
  · rw [if_neg h2, sg_lb _ (by omega), show 32 - n + i = 32 + i - n by omega]
    simp
theorem sg_tv3 (v : BitVec 64) {n : Nat} (h : 32 ≤ n) (h64 : n < 64) : sg_tv (sg_h v) (sg_l v) (n % 32) = sg_l (sg_rot v n) := b_ext fun i hi => by
  rw [show n % 32 = n - 32 by omega, sg_tvb _ _ (by omega) hi, sg_lb _ hi, sg_rb v n (by omega), decide_eq_false (show ¬ n ≤ i by omega)]
  by_cases h2 : n - 32 ≤ i
  · rw [if_pos h2, sg_hb _ (by omega), show 32 + (i - (n - 32)) = 64 - n + i by omega]
    simp
  · rw [if_neg h2, sg_lb _ (by omega), show 32 - (n - 32) + i = 64 - n + i by omega]
    simp
theorem sg_tv4 (v : BitVec 64) {n : Nat} (h : 32 ≤ n) (h64 : n < 64) : sg_tv (sg_l v) (sg_h v) (n % 32) = sg_h (sg_rot v n) := b_ext fun i hi => by
  rw [show n % 32 = n - 32 by omega, sg_tvb _ _ (by omega) hi, sg_hb _ hi, sg_rb v n (by omega)]
  by_cases h2 : n - 32 ≤ i
  · rw [if_pos h2, sg_lb _ (by omega), decide_eq_true (show n ≤ 32 + i by omega), sg_big v (i := 64 - n + (32 + i)) (by omega), show i - (n - 32) = 32 + i - n by omega]
    simp
  · rw [if_neg h2, sg_hb _ (by omega), decide_eq_false (show ¬ n ≤ 32 + i by omega), show 32 + (32 - (n - 32) + i) = 64 - n + (32 + i) by omega]
    simp
/-- what up answers -/
theorem sg_up (v : BitVec 64) {n : Nat} (h0 : n ≠ 0) (h : n < 64) : sg_w v <<< ((nI n).toInt64 &&& 63) ||| ((sg_w v).toUInt64 >>> ((nI (64 - n)).toInt64.toUInt64 &&& Int64.toUInt64 63)).toInt64 = sg_w (sg_rot v n) := by
  rw [sg_wl v, wb_shl _ h, wb_shr v.isLt (by omega)]
  unfold sg_rot
  rw [← sg_w_or]
  congr 1
  · apply wb_inj
    rw [wb_tb]
    show _ = v <<< n
    apply BitVec.eq_of_toNat_eq
    rw [BitVec.toNat_ofNat, BitVec.toNat_shiftLeft, Nat.shiftLeft_eq]
  · apply wb_inj
    rw [wb_tb]
    show _ = v >>> (64 - n)
    apply BitVec.eq_of_toNat_eq
    rw [BitVec.toNat_ofNat, BitVec.toNat_ushiftRight, Nat.shiftRight_eq_div_pow, Nat.mod_eq_of_lt (Nat.lt_of_le_of_lt (Nat.div_le_self _ _) v.isLt)]
theorem sg_shl {b k : Nat} (hb : b < 2 ^ 31) (hk : k < 64) : (nI b).toInt64 <<< ((nI k).toInt64 &&& 63) = sg_w (BitVec.ofNat 64 b <<< k) := by
  rw [nI_l hb, wb_shl _ hk]
  apply wb_inj
  rw [wb_tb]
  show _ = BitVec.ofNat 64 b <<< k
  apply BitVec.eq_of_toNat_eq
  rw [BitVec.toNat_ofNat, BitVec.toNat_shiftLeft, BitVec.toNat_ofNat, Nat.shiftLeft_eq, Nat.mod_eq_of_lt (show b < 2 ^ 64 by omega)]
theorem sg_nb (b : Nat) {i : Nat} (hi : i < 32) : bt (nI b) i = b.testBit i := by
  show (BitVec.ofNat 32 b).getLsbD i = _
  rw [BitVec.getLsbD_ofNat]
  simp [hi]
theorem sg_tb8 {b i : Nat} (hb : b < 256) (hi : 8 ≤ i) : b.testBit i = false := Nat.testBit_lt_two_pow (Nat.lt_of_lt_of_le (show b < 2 ^ 8 from hb) (Nat.pow_le_pow_right (by decide) hi))
theorem sg_sb (b k : Nat) {i : Nat} (hi : i < 64) : (BitVec.ofNat 64 b <<< k).getLsbD i = (decide (k ≤ i) && b.testBit (i - k)) := by
  rw [BitVec.getLsbD_shiftLeft, BitVec.getLsbD_ofNat]
  rcases Nat.lt_or_ge i k with h | h
  · simp [h, Nat.not_le.mpr h]
  · simp [hi, h, Nat.not_lt.mpr h, show i - k < 64 by omega]
/-- a byte is put: the half that it lies in, the other half -/
theorem sg_put_l (v : BitVec 64) {P b : Nat} (hP : P % 8 < 4) : sg_l v ^^^ (nI b <<< (nI (8 * (P % 4)) &&& 31)) = sg_l (v ^^^ (BitVec.ofNat 64 b <<< (8 * (P % 8)))) := b_ext fun i hi => by
  rw [b_xor, b_shl _ (by omega) _ hi, sg_lb _ hi, sg_lb _ hi, BitVec.getLsbD_xor, sg_sb _ _ (by omega), show P % 8 = P % 4 by omega]
  congr 1
  by_cases h : 8 * (P % 4) ≤ i
  · rw [sg_nb _ (by omega)]
  · simp [h]
theorem sg_put_l' (v : BitVec 64) {P b : Nat} (hb : b < 256) (hP : P % 8 < 4) : sg_h (v ^^^ (BitVec.ofNat 64 b <<< (8 * (P % 8)))) = sg_h v := b_ext fun i hi => by
  rw [sg_hb _ hi, sg_hb _ hi, BitVec.getLsbD_xor, sg_sb _ _ (by omega), sg_tb8 hb (by omega)]
  simp
theorem sg_put_h (v : BitVec 64) {P b : Nat} (hP : ¬ P % 8 < 4) : sg_h v ^^^ (nI b <<< (nI (8 * (P % 4)) &&& 31)) = sg_h (v ^^^ (BitVec.ofNat 64 b <<< (8 * (P % 8)))) := b_ext fun i hi => by
  rw [b_xor, b_shl _ (by omega) _ hi, sg_hb _ hi, sg_hb _ hi, BitVec.getLsbD_xor, sg_sb _ _ (by omega), show P % 8 = 4 + P % 4 by omega]
  congr 1
  by_cases h : 8 * (P % 4) ≤ i
  · rw [sg_nb _ (by omega), show 32 + i - 8 * (4 + P % 4) = i - 8 * (P % 4) by omega, decide_eq_true h, decide_eq_true (show 8 * (4 + P % 4) ≤ 32 + i by omega)]
  · rw [decide_eq_false h, decide_eq_false (show ¬ 8 * (4 + P % 4) ≤ 32 + i by omega)]
    simp
theorem sg_put_h' (v : BitVec 64) {P b : Nat} (hP : ¬ P % 8 < 4) : sg_l (v ^^^ (BitVec.ofNat 64 b <<< (8 * (P % 8)))) = sg_l v := b_ext fun i hi => by
  rw [sg_lb _ hi, sg_lb _ hi, BitVec.getLsbD_xor, sg_sb _ _ (by omega), decide_eq_false (show ¬ 8 * (P % 8) ≤ i by omega)]
  simp
theorem sg_mb (x : Nat) {i : Nat} (hi : i < 32) : bt (nI (x % 256)) i = (decide (i < 8) && x.testBit i) := by
  rw [sg_nb _ hi, show (256 : Nat) = 2 ^ 8 from rfl, Nat.testBit_mod_two_pow]
theorem sg_ub (v : BitVec 64) (k i : Nat) : (v >>> k).toNat.testBit i = v.getLsbD (k + i) := by
  rw [← BitVec.getLsbD_ushiftRight]
  rfl
theorem sg_255 : nI 255 = 255 := rfl
/-- a byte is read -/
theorem sg_at_l (v : BitVec 64) {P : Nat} (hP : P % 8 < 4) : ((sg_l v).toUInt32 >>> ((nI (8 * (P % 4))).toUInt32 &&& Int32.toUInt32 31)).toInt32 &&& nI 255 = nI ((v >>> (8 * (P % 8))).toNat % 256) := b_ext fun i hi => by
  rw [b_and, b_ushr _ (by omega), sg_mb _ hi, sg_255, b_255, sg_ub, show P % 8 = P % 4 by omega]
  by_cases h : i < 8
  · rw [sg_lb _ (by omega)]
    simp [h]
  · simp [h]
theorem sg_at_h (v : BitVec 64) {P : Nat} (hP : ¬ P % 8 < 4) : ((sg_h v).toUInt32 >>> ((nI (8 * (P % 4))).toUInt32 &&& Int32.toUInt32 31)).toInt32 &&& nI 255 = nI ((v >>> (8 * (P % 8))).toNat % 256) := b_ext fun i hi => by
  rw [b_and, b_ushr _ (by omega), sg_mb _ hi, sg_255, b_255, sg_ub, show P % 8 = 4 + P % 4 by omega]
  by_cases h : i < 8
  · rw [sg_hb _ (by omega), show 32 + (8 * (P % 4) + i) = 8 * (4 + P % 4) + i by omega]
    simp [h]
  · simp [h]
theorem sg_at_w (v : BitVec 64) {k : Nat} (hk : k < 64) : (((sg_w v).toUInt64 >>> ((nI k).toInt64.toUInt64 &&& Int64.toUInt64 63)).toInt64 &&& 255).toInt32 = nI ((v >>> k).toNat % 256) := by
  rw [sg_wl, wb_shr v.isLt hk, show (255 : Int64) = lN (2 ^ 8 - 1) from rfl, wb_mask (Nat.lt_of_le_of_lt (Nat.div_le_self _ _) v.isLt) (by decide), lN_i, BitVec.toNat_ushiftRight, Nat.shiftRight_eq_div_pow]
theorem sg_lane0 (v : BitVec 64) : (sg_w v).toInt32 = sg_l v := Int32.toBitVec_inj.mp (by
  unfold sg_w sg_l
  rw [Int64.toBitVec_toInt32, Int64.toBitVec_ofBitVec, Int32.toBitVec_ofBitVec]
  apply BitVec.eq_of_getLsbD_eq
  intro i hi
  rw [BitVec.getLsbD_signExtend, BitVec.getLsbD_setWidth, if_pos (by omega)])
theorem sg_lane1 (v : BitVec 64) : (((sg_w v).toUInt64 >>> ((nI 32).toInt64.toUInt64 &&& Int64.toUInt64 63)).toInt64).toInt32 = sg_h v := by
  have h : ((sg_w v).toUInt64 >>> ((nI 32).toInt64.toUInt64 &&& Int64.toUInt64 63)).toInt64 = sg_w (v >>> 32) := by
    rw [sg_wl v, wb_shr v.isLt (by decide)]
    apply wb_inj
    rw [wb_tb]
    show _ = v >>> 32
    apply BitVec.eq_of_toNat_eq
    rw [BitVec.toNat_ofNat, BitVec.toNat_ushiftRight, Nat.shiftRight_eq_div_pow, Nat.mod_eq_of_lt (Nat.lt_of_le_of_lt (Nat.div_le_self _ _) v.isLt)]
  rw [h, sg_lane0]
  rfl
end
section
/-! finite tables and their laws; printed by gen/tables.py -/
set_option maxRecDepth 100000
def sg_sl : List Nat := ([1, 2, 4, 8, 16, 32, 64, 128, 113, 226, 181, 27, 54, 108, 216, 193, 243, 151, 95, 190, 13, 26, 52, 104, 208, 209, 211, 215, 223, 207, 239, 175, 47, 94, 188, 9, 18, 36, 72, 144, 81, 162, 53, 106, 212, 217, 195, 247, 159, 79, 158, 77, 154, 69, 138, 101, 202, 229, 187, 7, 14, 28, 56, 112, 224, 177, 19, 38, 76, 152, 65, 130, 117, 234, 165, 59, 118, 236, 169, 35, 70, 140, 105, 210, 213, 219, 199, 255, 143, 111, 222, 205, 235, 167, 63, 126, 252, 137, 99, 198, 253, 139, 103, 206, 237, 171, 39, 78, 156, 73, 146, 85, 170, 37, 74, 148, 89, 178, 21, 42, 84, 168, 33, 66, 132, 121, 242, 149, 91, 182, 29, 58, 116, 232, 161, 51, 102, 204, 233, 163, 55, 110, 220, 201, 227, 183, 31, 62, 124, 248, 129, 115, 230, 189, 11, 22, 44, 88, 176, 17, 34, 68, 136, 97, 194, 245, 155, 71, 142] : List Nat)
def sg_s (n : Nat) : Nat := sg_sl.getD n 0
theorem sg_s0 : sg_s 0 = 1 := by decide +kernel
theorem sg_s1 : ∀ n, n < 168 → sg_s (n + 1) = if 2 * sg_s n ≤ 255 then 2 * sg_s n else (2 * sg_s n) ^^^ 369 := by decide +kernel
theorem sg_slt : ∀ n, n < 169 → sg_s n < 256 := by decide +kernel
def sg_Rp (i : Nat) : Nat → BitVec 64
  | 0 => 0
  | j + 1 => sg_Rp i j ^^^ (BitVec.ofNat 64 (sg_s (7 * i + j) % 2) <<< (2 ^ j - 1))
def sg_RC (i : Nat) : BitVec 64 := sg_Rp i 7
/-- the walk over all lanes but the first -/
def sg_wx (t : Nat) : Nat := ([1, 0, 2, 1, 2, 3, 3, 0, 1, 3, 1, 4, 4, 0, 3, 4, 3, 2, 2, 0, 4, 2, 4, 1, 1] : List Nat).getD t 0
def sg_wy (t : Nat) : Nat := ([0, 2, 1, 2, 3, 3, 0, 1, 3, 1, 4, 4, 0, 3, 4, 3, 2, 2, 0, 4, 2, 4, 1, 1, 0] : List Nat).getD t 0
def sg_dst (t : Nat) : Nat := sg_wy t + 5 * ((2 * sg_wx t + 3 * sg_wy t) % 5)
def sg_sw (t : Nat) : Nat := sg_wx t + 5 * sg_wy t
def sg_wi (j : Nat) : Nat := ([0, 23, 17, 5, 11, 6, 22, 1, 8, 21, 0, 2, 16, 15, 19, 12, 7, 3, 4, 14, 18, 9, 20, 13, 10] : List Nat).getD j 0
def sg_wj (j : Nat) : Nat := ([0, 0, 18, 6, 12, 7, 23, 2, 9, 22, 1, 3, 17, 16, 20, 13, 8, 4, 5, 15, 19, 10, 21, 14, 11] : List Nat).getD j 0
theorem sg_w0 : sg_wx 0 = 1 ∧ sg_wy 0 = 0 := by decide +kernel
theorem sg_w1 : ∀ t, t < 24 → sg_wx (t + 1) = sg_wy t ∧ sg_wy (t + 1) = (2 * sg_wx t + 3 * sg_wy t) % 5 := by decide +kernel
theorem sg_w5 : ∀ t, t < 25 → sg_wx t < 5 ∧ sg_wy t < 5 := by decide +kernel
theorem sg_d25 : ∀ t, t < 24 → sg_dst t < 25 ∧ sg_dst t ≠ 0 ∧ sg_sw t < 25 ∧ sg_sw t ≠ 0 ∧ sg_src (sg_dst t) = sg_sw t ∧ sg_R (sg_sw t) = (t + 1) * (t + 2) / 2 % 64 := by decide +kernel
theorem sg_dinj : ∀ t, t < 24 → ∀ u, u < 24 → sg_dst t = sg_dst u → t = u := by decide +kernel
theorem sg_sinj : ∀ t, t < 24 → ∀ u, u < 24 → sg_sw t = sg_sw u → t = u := by decide +kernel
theorem sg_don : ∀ j, j < 25 → j ≠ 0 → sg_wi j < 24 ∧ sg_dst (sg_wi j) = j := by decide +kernel
theorem sg_son : ∀ j, j < 25 → j ≠ 0 → sg_wj j < 24 ∧ sg_sw (sg_wj j) = j := by decide +kernel
/-- the walk row by row -/
theorem sg_tinj : ∀ x, x < 5 → ∀ y, y < 5 → ∀ a, a < 5 → ∀ b, b < 5 → y + 5 * ((2 * x + 3 * y) % 5) = b + 5 * ((2 * a + 3 * b) % 5) → x = a ∧ y = b := by
  intro x hx y hy a ha b hb h
  have h1 : y = b := by omega
  subst h1
  exact ⟨by omega, rfl⟩
theorem sg_ton : ∀ j, j < 25 → (j % 5 + 3 * (j / 5)) % 5 < 5 ∧ j % 5 < 5 ∧ j % 5 + 5 * ((2 * ((j % 5 + 3 * (j / 5)) % 5) + 3 * (j % 5)) % 5) = j := by decide +kernel
theorem sg_R64 : ∀ k, k < 25 → sg_R k < 64 := by decide +kernel
/-- the round constants, bit by bit, in two halves -/
theorem sg_tab0 : ∀ i, i < 24 → ∀ j, j < 7 → sg_s (7 * i + j) % 2 = 0 → sg_Rp i (j + 1) = sg_Rp i j := by decide +kernel
theorem sg_tabl : ∀ i, i < 24 → ∀ j, j < 6 → sg_s (7 * i + j) % 2 = 1 → sg_l (sg_Rp i j) ||| (nI 1 <<< (nI (2 ^ j - 1) &&& 31)) = sg_l (sg_Rp i (j + 1)) ∧ sg_h (sg_Rp i j) = sg_h (sg_Rp i (j + 1)) := by decide +kernel
theorem sg_tabh : ∀ i, i < 24 → sg_s (7 * i + 6) % 2 = 1 → sg_h (sg_Rp i 6) ||| (nI 1 <<< (nI (2 ^ 6 - 1 - 32) &&& 31)) = sg_h (sg_Rp i 7) ∧ sg_l (sg_Rp i 6) = sg_l (sg_Rp i 7) := by decide +kernel
theorem sg_1shl : ∀ j, j < 7 → nI 1 <<< (nI j &&& 31) = nI (2 ^ j) := by decide +kernel
theorem sg_2shl : ∀ s, s < 256 → nI s <<< (nI 1 &&& 31) = nI (2 * s) := by decide +kernel
theorem sg_and1 (s : Nat) : nI s &&& nI 1 = nI (s % 2) := by rw [nx_and, Nat.and_one_is_mod]
theorem sg_pw : ∀ j, j < 8 → 1 ≤ 2 ^ j ∧ 2 ^ j ≤ 128 := by decide +kernel
theorem sg_pw6 : ∀ j, j < 7 → (2 ^ j - 1 < 32 ↔ j < 6) := by decide +kernel
theorem sg_xlt : ∀ s, s < 256 → (2 * s) ^^^ 369 < 512 := by decide +kernel
end
section
/-! rounds, the permutation, steps of the loops; the state that both sides are tied to -/
def sg_rd (i : Nat) (S : Nat → BitVec 64) (k : Nat) : BitVec 64 := if k = 0 then sg_X (sg_M (sg_T S)) k ^^^ sg_RC i else sg_X (sg_M (sg_T S)) k
def sg_pr (S : Nat → BitVec 64) : Nat → Nat → BitVec 64
  | 0 => S
  | i + 1 => sg_rd i (sg_pr S i)
def sg_P (S : Nat → BitVec 64) : Nat → BitVec 64 := sg_pr S 24
/-- the tables that init makes; as they are before -/
def sg_TB (rl rh rt : Nat → Int32) : Prop := (∀ i, i < 24 → rl i = sg_l (sg_RC i) ∧ rh i = sg_h (sg_RC i)) ∧ ∀ k, k < 25 → rt k = nI (sg_R k)
def sg_Z (rl rh rt : Nat → Int32) : Prop := (∀ i, i < 24 → rl i = nI 0 ∧ rh i = nI 0) ∧ ∀ k, k < 25 → rt k = nI 0
theorem sp_F0 {s t : State} (ht : t.heap = s.heap) : va_F (fun _ => False) s t := ⟨by rw [ht]; exact Nat.le_refl _, fun q _ _ => by rw [ht]⟩
theorem sg_Cp5 (S : Nat → BitVec 64) (x : Nat) : sg_Cp S x 5 = sg_C S x := by
  have h : (0 : BitVec 64) ^^^ S x = S x := BitVec.zero_xor
  show (0 : BitVec 64) ^^^ S x ^^^ S (x + 5) ^^^ S (x + 10) ^^^ S (x + 15) ^^^ S (x + 20) = _
  rw [h]
  rfl
/-- a loop that fills, over old lanes -/
theorem sg_step2 {lo hi lo1 hi1 : Nat → Int32} {S S' : Nat → BitVec 64} {k : Nat} (inv : ∀ j, j < 25 → lo j = sg_l (if j < k then S' j else S j) ∧ hi j = sg_h (if j < k then S' j else S j)) (e1 : lo1 = upd lo k (sg_l (S' k))) (e2 : hi1 = upd hi k (sg_h (S' k))) : ∀ j, j < 25 → lo1 j = sg_l (if j < k + 1 then S' j else S j) ∧ hi1 j = sg_h (if j < k + 1 then S' j else S j) := by
  intro j hj
  subst e1
  subst e2
  by_cases h : j = k
  · subst h
    rw [pk_us, pk_us, if_pos (Nat.lt_succ_self j)]
    exact ⟨rfl, rfl⟩
  · rw [pk_un h, pk_un h, (inv j hj).1, (inv j hj).2]
    by_cases h2 : j < k
    · rw [if_pos h2, if_pos (by omega)]
      exact ⟨rfl, rfl⟩
    · rw [if_neg h2, if_neg (by omega)]
      exact ⟨rfl, rfl⟩
/-- a loop that fills, over whatever was there -/
theorem sg_step1 {lo hi lo1 hi1 : Nat → Int32} {S' : Nat → BitVec 64} {k : Nat} (inv : ∀ j, j < k → lo j = sg_l (S' j) ∧ hi j = sg_h (S' j)) (e1 : lo1 = upd lo k (sg_l (S' k))) (e2 : hi1 = upd hi k (sg_h (S' k))) : ∀ j, j < k + 1 → lo1 j = sg_l (S' j) ∧ hi1 j = sg_h (S' j) := by
  intro j hj
  subst e1
  subst e2
  by_cases h : j = k
  · subst h
    rw [pk_us, pk_us]
    exact ⟨rfl, rfl⟩
  · rw [pk_un h, pk_un h]
    exact inv j (by omega)
/-- the same for longs -/
theorem sg_step2w {st st1 : Nat → Int64} {S S' : Nat → BitVec 64} {k : Nat} (inv : ∀ j, j < 25 → st j = sg_w (if j < k then S' j else S j)) (e1 : st1 = vp_updL st k (sg_w (S' k))) : ∀ j, j < 25 → st1 j = sg_w (if j < k + 1 then S' j else S j) := by
  intro j hj
  subst e1
  by_cases h : j = k
  · subst h
    rw [pk_uLs, if_pos (Nat.lt_succ_self j)]
  · rw [pk_uLn h, inv j hj]
    by_cases h2 : j < k
    · rw [if_pos h2, if_pos (by omega)]
    · rw [if_neg h2, if_neg (by omega)]
theorem sg_step1w {st st1 : Nat → Int64} {S' : Nat → BitVec 64} {k : Nat} (inv : ∀ j, j < k → st j = sg_w (S' j)) (e1 : st1 = vp_updL st k (sg_w (S' k))) : ∀ j, j < k + 1 → st1 j = sg_w (S' j) := by
  intro j hj
  subst e1
  by_cases h : j = k
  · subst h
    rw [pk_uLs]
  · rw [pk_uLn h]
    exact inv j (by omega)
/-- columns: the sum of column x up to row j, the columns before it -/
def sg_mc (S : Nat → BitVec 64) (x j : Nat) (tl th : Nat → Int32) : Prop := (tl x = sg_l (sg_Cp S x j) ∧ th x = sg_h (sg_Cp S x j)) ∧ ∀ i, i < x → tl i = sg_l (sg_C S i) ∧ th i = sg_h (sg_C S i)
theorem sg_mc0 {S : Nat → BitVec 64} {x : Nat} {tl th tl1 th1 : Nat → Int32} (inv : ∀ i, i < x → tl i = sg_l (sg_C S i) ∧ th i = sg_h (sg_C S i)) (e1 : tl1 = upd tl x (nI 0)) (e2 : th1 = upd th x (nI 0)) : sg_mc S x 0 tl1 th1 := by
  subst e1
  subst e2
  refine ⟨⟨by rw [pk_us]; exact sg_l_0.symm, by rw [pk_us]; exact sg_h_0.symm⟩, fun i hi => ?_⟩
  rw [pk_un (by omega), pk_un (by omega)]
  exact inv i hi
theorem sg_mc1 {S : Nat → BitVec 64} {x j : Nat} {tl th tl1 th1 : Nat → Int32} (inv : sg_mc S x j tl th) (e1 : tl1 = upd tl x (sg_l (sg_Cp S x (j + 1)))) (e2 : th1 = upd th x (sg_h (sg_Cp S x (j + 1)))) : sg_mc S x (j + 1) tl1 th1 := by
  subst e1
  subst e2
  refine ⟨⟨by rw [pk_us], by rw [pk_us]⟩, fun i hi => ?_⟩
  rw [pk_un (by omega), pk_un (by omega)]
  exact inv.2 i hi
theorem sg_mc5 {S : Nat → BitVec 64} {x : Nat} {tl th : Nat → Int32} (inv : sg_mc S x 5 tl th) : ∀ i, i < x + 1 → tl i = sg_l (sg_C S i) ∧ th i = sg_h (sg_C S i) := by
  intro i hi
  by_cases h : i = x
  · subst h
    rw [← sg_Cp5]
    exact inv.1
  · exact inv.2 i (by omega)
/-- lanes turned and moved, up to (x, y) -/
def sg_mv (S : Nat → BitVec 64) (x y : Nat) (tl th : Nat → Int32) : Prop := ∀ a b, a < 5 → b < 5 → (a < x ∨ (a = x ∧ b < y)) → tl (b + 5 * ((2 * a + 3 * b) % 5)) = sg_l (sg_rot (S (a + 5 * b)) (sg_R (a + 5 * b))) ∧ th (b + 5 * ((2 * a + 3 * b) % 5)) = sg_h (sg_rot (S (a + 5 * b)) (sg_R (a + 5 * b)))
theorem sg_mv1 {S : Nat → BitVec 64} {x y : Nat} {tl th tl1 th1 : Nat → Int32} (hx : x < 5) (hy : y < 5) (inv : sg_mv S x y tl th) (e1 : tl1 = upd tl (y + 5 * ((2 * x + 3 * y) % 5)) (sg_l (sg_rot (S (x + 5 * y)) (sg_R (x + 5 * y))))) (e2 : th1 = upd th (y + 5 * ((2 * x + 3 * y) % 5)) (sg_h (sg_rot (S (x + 5 * y)) (sg_R (x + 5 * y))))) : sg_mv S x (y + 1) tl1 th1 := by
  intro a b ha hb h
  subst e1
  subst e2
  by_cases h2 : b + 5 * ((2 * a + 3 * b) % 5) = y + 5 * ((2 * x + 3 * y) % 5)
  · obtain ⟨e1, e2⟩ := sg_tinj a ha b hb x hx y hy h2
    subst e1
    subst e2
    rw [pk_us, pk_us]
    exact ⟨rfl, rfl⟩
  · rw [pk_un h2, pk_un h2]
    refine inv a b ha hb ?_
    rcases h with h | ⟨h, h3⟩
    · exact Or.inl h
    · refine Or.inr ⟨h, ?_⟩
      by_cases h4 : b = y
      · subst h
        subst h4
        exact absurd rfl h2
      · omega
theorem sg_mvn {S : Nat → BitVec 64} {x : Nat} {tl th : Nat → Int32} (inv : sg_mv S x 5 tl th) : sg_mv S (x + 1) 0 tl th := fun a b ha hb h => inv a b ha hb (by omega)
theorem sg_mve {S : Nat → BitVec 64} {tl th : Nat → Int32} (inv : sg_mv S 5 0 tl th) : sg_LH tl th (sg_M S) := by
  intro j hj
  obtain ⟨h1, h2, h3⟩ := sg_ton j hj
  have h := inv _ _ h1 h2 (Or.inl h1)
  rw [h3] at h
  exact h
theorem sg_X1 (T : Nat → BitVec 64) {j x : Nat} (hx : x < 5) : sg_X T (5 * j + x) = T (5 * j + x) ^^^ (~~~ (T (5 * j + (x + 1) % 5)) &&& T (5 * j + (x + 2) % 5)) := by
  unfold sg_X
  rw [show 5 * j + x - (5 * j + x) % 5 + (5 * j + x + 1) % 5 = 5 * j + (x + 1) % 5 by omega, show 5 * j + x - (5 * j + x) % 5 + (5 * j + x + 2) % 5 = 5 * j + (x + 2) % 5 by omega]
theorem sg_rds {S : Nat → BitVec 64} {i : Nat} {lo hi lo1 hi1 : Nat → Int32} (h : sg_LH lo hi (sg_X (sg_M (sg_T S)))) (e1 : lo1 = upd lo 0 (sg_l (sg_X (sg_M (sg_T S)) 0) ^^^ sg_l (sg_RC i))) (e2 : hi1 = upd hi 0 (sg_h (sg_X (sg_M (sg_T S)) 0) ^^^ sg_h (sg_RC i))) : sg_LH lo1 hi1 (sg_rd i S) := by
  intro k hk
  subst e1
  subst e2
  unfold sg_rd
  by_cases h0 : k = 0
  · subst h0
    rw [pk_us, pk_us, if_pos rfl, sg_l_xor, sg_h_xor]
    exact ⟨rfl, rfl⟩
  · rw [pk_un h0, pk_un h0, if_neg h0]
    exact h k hk
theorem sg_put_s1 {S : Nat → BitVec 64} {P b : Nat} {lo hi lo1 : Nat → Int32} (h : sg_LH lo hi S) (hb : b < 256) (hP : P % 8 < 4) (e1 : lo1 = upd lo (P / 8) (sg_l (S (P / 8) ^^^ (BitVec.ofNat 64 b <<< (8 * (P % 8)))))) : sg_LH lo1 hi (sg_put S P b) := by
  intro k hk
  subst e1
  unfold sg_put
  by_cases h0 : k = P / 8
  · subst h0
    rw [pk_us, if_pos rfl]
    exact ⟨rfl, by rw [sg_put_l' _ hb hP]; exact (h _ hk).2⟩
  · rw [pk_un h0, if_neg h0]
    exact h k hk
theorem sg_put_s2 {S : Nat → BitVec 64} {P b : Nat} {lo hi hi1 : Nat → Int32} (h : sg_LH lo hi S) (hP : ¬ P % 8 < 4) (e1 : hi1 = upd hi (P / 8) (sg_h (S (P / 8) ^^^ (BitVec.ofNat 64 b <<< (8 * (P % 8)))))) : sg_LH lo hi1 (sg_put S P b) := by
  intro k hk
  subst e1
  unfold sg_put
  by_cases h0 : k = P / 8
  · subst h0
    rw [pk_us, if_pos rfl]
    exact ⟨by rw [sg_put_h' _ hP]; exact (h _ hk).1, rfl⟩
  · rw [pk_un h0, if_neg h0]
    exact h k hk
theorem sg_put_w {S : Nat → BitVec 64} {P b : Nat} {st st1 : Nat → Int64} (h : sg_MH st S) (e1 : st1 = vp_updL st (P / 8) (sg_w (S (P / 8) ^^^ (BitVec.ofNat 64 b <<< (8 * (P % 8)))))) : sg_MH st1 (sg_put S P b) := by
  intro k hk
  subst e1
  unfold sg_put
  by_cases h0 : k = P / 8
  · subst h0
    rw [pk_uLs, if_pos rfl]
  · rw [pk_uLn h0, if_neg h0]
    exact h k hk
/-- the tables of constants, up to bit j of round i -/
def sg_ti (i j : Nat) (rl rh : Nat → Int32) : Prop := (∀ k, k < i → rl k = sg_l (sg_RC k) ∧ rh k = sg_h (sg_RC k)) ∧ (rl i = sg_l (sg_Rp i j) ∧ rh i = sg_h (sg_Rp i j)) ∧ ∀ k, i < k → k < 24 → rl k = nI 0 ∧ rh k = nI 0
def sg_to (i : Nat) (rl rh : Nat → Int32) : Prop := (∀ k, k < i → rl k = sg_l (sg_RC k) ∧ rh k = sg_h (sg_RC k)) ∧ ∀ k, i ≤ k → k < 24 → rl k = nI 0 ∧ rh k = nI 0
theorem sg_ti0 {i : Nat} {rl rh : Nat → Int32} (hi : i < 24) (h : sg_to i rl rh) : sg_ti i 0 rl rh := ⟨h.1, ⟨(h.2 i (Nat.le_refl i) hi).1.trans sg_l_0.symm, (h.2 i (Nat.le_refl i) hi).2.trans sg_h_0.symm⟩, fun k h1 h2 => h.2 k (by omega) h2⟩
theorem sg_ti7 {i : Nat} {rl rh : Nat → Int32} (h : sg_ti i 7 rl rh) : sg_to (i + 1) rl rh := by
  refine ⟨fun k hk => ?_, fun k h1 h2 => h.2.2 k (by omega) h2⟩
  by_cases h0 : k = i
  · subst h0
    exact h.2.1
  · exact h.1 k (by omega)
theorem sg_tiN {i j : Nat} {rl rh : Nat → Int32} (hi : i < 24) (hj : j < 7) (h : sg_ti i j rl rh) (hs : sg_s (7 * i + j) % 2 ≠ 1) : sg_ti i (j + 1) rl rh := by
  refine ⟨h.1, ?_, h.2.2⟩
  rw [sg_tab0 i hi j hj (by omega)]
  exact h.2.1
theorem sg_tiL {i j : Nat} {rl rh rl1 : Nat → Int32} (hi : i < 24) (hj : j < 6) (h : sg_ti i j rl rh) (hs : sg_s (7 * i + j) % 2 = 1) (e1 : rl1 = upd rl i (sg_l (sg_Rp i (j + 1)))) : sg_ti i (j + 1) rl1 rh := by
  subst e1
  refine ⟨fun k hk => ?_, ⟨by rw [pk_us], by rw [← (sg_tabl i hi j hj hs).2]; exact h.2.1.2⟩, fun k h1 h2 => ?_⟩
  · rw [pk_un (by omega)]
    exact h.1 k hk
  · rw [pk_un (by omega)]
    exact h.2.2 k h1 h2
theorem sg_tiH {i : Nat} {rl rh rh1 : Nat → Int32} (hi : i < 24) (h : sg_ti i 6 rl rh) (hs : sg_s (7 * i + 6) % 2 = 1) (e1 : rh1 = upd rh i (sg_h (sg_Rp i 7))) : sg_ti i 7 rl rh1 := by
  subst e1
  refine ⟨fun k hk => ?_, ⟨by rw [← (sg_tabh i hi hs).2]; exact h.2.1.1, by rw [pk_us]⟩, fun k h1 h2 => ?_⟩
  · rw [pk_un (by omega)]
    exact h.1 k hk
  · rw [pk_un (by omega)]
    exact h.2.2 k h1 h2
/-- the table of turns, up to step t of the walk -/
def sg_tt (t : Nat) (rt : Nat → Int32) : Prop := rt 0 = nI 0 ∧ ∀ u, u < t → rt (sg_sw u) = nI (sg_R (sg_sw u))
theorem sg_tt1 {t : Nat} {rt rt1 : Nat → Int32} (ht : t < 24) (h : sg_tt t rt) (e1 : rt1 = upd rt (sg_sw t) (nI (sg_R (sg_sw t)))) : sg_tt (t + 1) rt1 := by
  subst e1
  obtain ⟨-, -, -, h4, -⟩ := sg_d25 t ht
  refine ⟨by rw [pk_un (Ne.symm h4)]; exact h.1, fun u hu => ?_⟩
  by_cases h0 : u = t
  · subst h0
    rw [pk_us]
  · rw [pk_un (fun q => h0 (sg_sinj u (by omega) t ht q))]
    exact h.2 u (by omega)
theorem sg_tte {rt : Nat → Int32} (h : sg_tt 24 rt) : ∀ k, k < 25 → rt k = nI (sg_R k) := by
  intro k hk
  by_cases h0 : k = 0
  · subst h0
    exact h.1
  · obtain ⟨h1, h2⟩ := sg_son k hk h0
    have h3 := h.2 _ h1
    rw [h2] at h3
    exact h3
/-- the reference's walk over the lanes -/
def sg_wm (S : Nat → BitVec 64) (t : Nat) (ot : Nat → Int64) : Prop := ot 0 = sg_w (S 0) ∧ ∀ u, u < t → ot (sg_dst u) = sg_w (sg_rot (S (sg_sw u)) (sg_R (sg_sw u)))
theorem sg_wm1 {S : Nat → BitVec 64} {t : Nat} {ot ot1 : Nat → Int64} (ht : t < 24) (h : sg_wm S t ot) (e1 : ot1 = vp_updL ot (sg_dst t) (sg_w (sg_rot (S (sg_sw t)) (sg_R (sg_sw t))))) : sg_wm S (t + 1) ot1 := by
  subst e1
  obtain ⟨-, h2, -⟩ := sg_d25 t ht
  refine ⟨by rw [pk_uLn (Ne.symm h2)]; exact h.1, fun u hu => ?_⟩
  by_cases h0 : u = t
  · subst h0
    rw [pk_uLs]
  · rw [pk_uLn (fun q => h0 (sg_dinj u (by omega) t ht q))]
    exact h.2 u (by omega)
theorem sg_wme {S : Nat → BitVec 64} {ot : Nat → Int64} (h : sg_wm S 24 ot) : sg_MH ot (sg_M S) := by
  intro j hj
  by_cases h0 : j = 0
  · subst h0
    rw [h.1]
    show _ = sg_w (sg_rot (S 0) 0)
    rw [sg_rot0]
  · obtain ⟨h1, h2⟩ := sg_don j hj h0
    have h3 := h.2 _ h1
    rw [← (sg_d25 _ h1).2.2.2.2.1, h2] at h3
    exact h3
/-- the reference's constants: lane 0 with the bits up to j -/
def sg_rj (i j : Nat) (T : Nat → BitVec 64) (k : Nat) : BitVec 64 := if k = 0 then T k ^^^ sg_Rp i j else T k
theorem sg_rj0 {i : Nat} {T : Nat → BitVec 64} {st : Nat → Int64} (h : sg_MH st T) : sg_MH st (sg_rj i 0 T) := by
  intro k hk
  rw [h k hk]
  unfold sg_rj
  by_cases h0 : k = 0
  · rw [if_pos h0]
    show _ = sg_w (T k ^^^ 0#64)
    rw [BitVec.xor_zero]
  · rw [if_neg h0]
theorem sg_rj1 {i j : Nat} {T : Nat → BitVec 64} {st st1 : Nat → Int64} (h : sg_MH st (sg_rj i j T)) (e1 : st1 = vp_updL st 0 (sg_w (sg_rj i j T 0 ^^^ (BitVec.ofNat 64 (sg_s (7 * i + j) % 2) <<< (2 ^ j - 1))))) : sg_MH st1 (sg_rj i (j + 1) T) := by
  intro k hk
  subst e1
  by_cases h0 : k = 0
  · subst h0
    rw [pk_uLs]
    unfold sg_rj
    rw [if_pos rfl, if_pos rfl, BitVec.xor_assoc]
    rfl
  · rw [pk_uLn h0, h k hk]
    unfold sg_rj
    rw [if_neg h0, if_neg h0]
theorem sg_rj7 {i : Nat} {S : Nat → BitVec 64} {st : Nat → Int64} (h : sg_MH st (sg_rj i 7 (sg_X (sg_M (sg_T S))))) : sg_MH st (sg_rd i S) := h
/-- the abstract state: ready, phase, way, place, given, taken, lanes -/
abbrev sg_A : Type := Nat × Nat × Nat × Nat × Nat × Int32 × (Nat → BitVec 64)
def sg_begin : sg_A → Int32 → Int32 × sg_A
  | (rdy, ph, w, P, g, tk, S), v => if rdy ≠ 0 ∧ ¬ v < 0 ∧ v ≤ nI 1 then (nI 1, (rdy, 1, v.toNatClampNeg, 0, 0, nI 0, fun _ => 0)) else (nI 0, (rdy, ph, w, P, g, tk, S))
def sg_absorb : sg_A → Int32 → Int32 × sg_A
  | (rdy, ph, w, P, g, tk, S), v => if ph = 1 ∧ ¬ v < 0 ∧ v ≤ nI 255 then (nI 1, (if P + 1 = sg_rate w then (rdy, ph, w, 0, g, tk + nI 1, sg_P (sg_put S P v.toNatClampNeg)) else (rdy, ph, w, P + 1, g, tk + nI 1, sg_put S P v.toNatClampNeg))) else (nI 0, (rdy, ph, w, P, g, tk, S))
/-- the lanes padded and stirred -/
def sg_pad (w P : Nat) (S : Nat → BitVec 64) : Nat → BitVec 64 := sg_P (sg_put (sg_put S P (sg_suf w)) (sg_rate w - 1) 128)
def sg_squeeze : sg_A → Int32 × sg_A
  | (rdy, ph, w, P, g, tk, S) => if ph = 0 then (-1, (rdy, ph, w, P, g, tk, S)) else if ph = 1 then (nI (sg_at (sg_pad w P S) 0), (rdy, 2, w, 1, 1, tk, sg_pad w P S)) else if w = 0 ∧ g = 32 then (-2, (rdy, ph, w, P, g, tk, S)) else if P = sg_rate w then (nI (sg_at (sg_P S) 0), (rdy, ph, w, 1, g + 1, tk, sg_P S)) else (nI (sg_at S P), (rdy, ph, w, P + 1, g + 1, tk, S))
def sg_lane : sg_A → Int32 → Int32 → Int32
  | (_, ph, _, _, _, _, S), i, h => if ph ≠ 0 ∧ ¬ i < 0 ∧ ¬ nI 25 ≤ i ∧ ¬ h < 0 ∧ h ≤ nI 1 then (if h = nI 0 then sg_l (S i.toNatClampNeg) else sg_h (S i.toNatClampNeg)) else nI 0
def sg_count : sg_A → Int32
  | (_, ph, _, _, g, tk, _) => if ph = 2 then - nI g else tk
def sg_init : sg_A → sg_A
  | (_, ph, w, P, g, tk, S) => (1, ph, w, P, g, tk, S)
def sg_AI (N : Nat) : sg_A → Prop
  | (rdy, ph, w, P, g, _, _) => rdy ≤ 1 ∧ ph ≤ 2 ∧ w ≤ 1 ∧ (ph ≠ 0 → rdy = 1) ∧ (ph = 0 → g = 0) ∧ (ph = 1 → g = 0 ∧ P < sg_rate w) ∧ (ph = 2 → 1 ≤ g ∧ P ≤ sg_rate w ∧ (w = 0 → g ≤ 32)) ∧ g ≤ N
/-- the system's cells for an abstract state -/
def sg_CR : sg_A → (Nat → Int32) → (Nat → Int32) → (Nat → Int32) → (Nat → Int32) → (Nat → Int32) → Int32 → Int32 → Int32 → Int32 → Int32 → Int32 → Int32 → Int32 → Prop
  | (rdy, ph, w, P, g, tk, S), lo, hi, rl, rh, rt, rd, ra, su, po, pp, li, gi, ta => rd = nI rdy ∧ pp = nI ph ∧ gi = nI g ∧ ta = tk ∧ (rdy = 0 → sg_Z rl rh rt) ∧ (rdy = 1 → sg_TB rl rh rt) ∧ (ph ≠ 0 → ra = nI (sg_rate w) ∧ su = nI (sg_suf w) ∧ li = sg_lim w ∧ po = nI P ∧ sg_LH lo hi S)
/-- the reference's cells for an abstract state -/
def sg_MR : sg_A → (Nat → Int64) → Int32 → Int32 → Int32 → Int32 → Int32 → Int32 → Prop
  | (rdy, ph, w, P, g, tk, S), st, ir, ib, wa, pl, ta, co => ir = nI rdy ∧ ib = nI (if ph = 0 then 0 else 1) ∧ co = nI g ∧ ta = tk ∧ (ph ≠ 0 → wa = nI w ∧ pl = nI P ∧ sg_MH st S)
theorem sg_rate_in (w : Nat) : 136 ≤ sg_rate w ∧ sg_rate w ≤ 168 := by
  unfold sg_rate
  split <;> omega
theorem sg_suf_in (w : Nat) : sg_suf w < 256 := by
  unfold sg_suf
  split <;> omega
/-- bundles of arrays and of fields -/
def sg_f4 (a b c d : Nat → Int32) : Nat → Nat → Int32
  | 0 => a
  | 1 => b
  | 2 => c
  | _ => d
def sg_f7 (a b c d e f g : Nat → Int32) : Nat → Nat → Int32
  | 0 => a
  | 1 => b
  | 2 => c
  | 3 => d
  | 4 => e
  | 5 => f
  | _ => g
def sg_g8 (a b c d e f g h : Int32) : Nat → Int32
  | 0 => a
  | 1 => b
  | 2 => c
  | 3 => d
  | 4 => e
  | 5 => f
  | 6 => g
  | _ => h
def sg_m3 (a b c : Nat → Int64) : Nat → Nat → Int64
  | 0 => a
  | 1 => b
  | _ => c
def sg_g6 (a b c d e f : Int32) : Nat → Int32
  | 0 => a
  | 1 => b
  | 2 => c
  | 3 => d
  | 4 => e
  | _ => f
end
section
/-! contracts of the three static methods; printed by gen/m_static.py -/
set_option maxHeartbeats 4000000 in
set_option maxRecDepth 100000 in
/-- turned: one half of the lane, turned up by n -/
theorem met_turned (l : Launch) (v : BitVec 64) (n z : Nat) (hn : n < 64) (hz : z < 2) : Met l yX0_turned (ws_ yX0_turned cX0_turned 7 (some .int)) { frames := 0, cells := 0, slots := 0, locals := 0 } (va_Pc [.int (sg_l v), .int (sg_h v), .int (nI n), .int (nI z)] (fun _ => True)) (va_Qi (fun (r : Int32) (_ : Unit) => r = if z = 0 then sg_l (sg_rot v n) else sg_h (sg_rot v n)) (fun _ _ => True) (fun _ => False)) 0 0 (fun _ => False) := by
  refine Met.ofW (cc := cX0_turned) (maxL := 7) (ret := (some .int)) (by decide) rfl ?_
  intro p e s m args below meth c s₁ B hml hv
  obtain ⟨rfl, -⟩ := hv
  have hts := atoms_spec (ws := ws_ yX0_turned cX0_turned 7 (some .int)) B.pre
  have F : CallFix p m c cX0_turned 7 s ([.int (sg_l v), .int (sg_h v), .int (nI n), .int (nI z)] : List Value).toArray lw_all RX0 := ⟨B.exec, B.bytes, hml, findClass_of_methodNamed B.named, fun w h => hts w (List.mem_cons_of_mem _ h)⟩
  have hx := F.1
  have hb := F.2.1
  have hr := B.returns
  have hlocks := B.notSynchronized
  have hl := lv_entry ([.int (sg_l v), .int (sg_h v), .int (nI n), .int (nI z)]) (n := 7) (Nat.le_of_ble_eq_true rfl)
  rw [lg_entry_eq]
  generalize (lg_sl ([.int (sg_l v), .int (sg_h v), .int (nI n), .int (nI z)]) ++ List.replicate (7 - (lg_sl ([.int (sg_l v), .int (sg_h v), .int (nI n), .int (nI z)])).length) Slot.unset).toArray = ls at hl ⊢
  have hl : lv_has ls 7 [(0, .int (sg_l v)), (1, .int (sg_h v)), (2, .int (nI n)), (3, .int (nI z))] := hl
  rcases Nat.lt_or_ge n 32 with h32 | h32
  · rcases (show z = 0 ∨ z = 1 by omega) with rfl | rfl
    · refine lv_iload_n hx hb dX0_turned_0 rfl (lv_at hl 2 rfl) ?_
      refine lv_bipush (v := nI 32) hx hb dX0_turned_1 kb_32 ?_
      refine sp_ge (tgt := 10) hx hb (by omega) (by omega)  dX0_turned_3 (by decide) (fun c1 => ?_) (fun c1 => ?_)
      · exact absurd c1 (by omega)
      · refine lv_iconst (v := nI 1) hx hb dX0_turned_6 kc_1 ?_
        refine lv_goto (tgt := 11) hx hb dX0_turned_7 (by decide) ?_
        refine lv_iload_n hx hb dX0_turned_11 rfl (lv_at hl 3 rfl) ?_
        refine sp_eq (tgt := 19) hx hb (by omega) (by omega)  dX0_turned_12 (by decide) (fun c2 => ?_) (fun c2 => ?_)
        · exact absurd c2 (by omega)
        · refine lv_iload_n hx hb dX0_turned_15 rfl (lv_at hl 0 rfl) ?_
          refine lv_goto (tgt := 20) hx hb dX0_turned_16 (by decide) ?_
          refine lv_istore (lv' := [(4, .int (sg_l v)), (0, .int (sg_l v)), (1, .int (sg_h v)), (2, .int (nI n)), (3, .int (nI 0))]) hx hb dX0_turned_20 hl (by decide) rfl (fun ls hl => ?_)
          refine lv_iload_n hx hb dX0_turned_22 rfl (lv_at hl 3 rfl) ?_
          refine lv_bipush (v := nI 32) hx hb dX0_turned_23 kb_32 ?_
          refine sp_ge (tgt := 32) hx hb (by omega) (by omega)  dX0_turned_25 (by decide) (fun c3 => ?_) (fun c3 => ?_)
          · exact absurd c3 (by omega)
          · refine lv_iconst (v := nI 1) hx hb dX0_turned_28 kc_1 ?_
            refine lv_goto (tgt := 33) hx hb dX0_turned_29 (by decide) ?_
            refine lv_iload_n hx hb dX0_turned_33 rfl (lv_at hl 4 rfl) ?_
            refine sp_eq (tgt := 41) hx hb (by omega) (by omega)  dX0_turned_34 (by decide) (fun c4 => ?_) (fun c4 => ?_)
            · exact absurd c4 (by omega)
            · refine lv_iload_n hx hb dX0_turned_37 rfl (lv_at hl 2 rfl) ?_
              refine lv_goto (tgt := 42) hx hb dX0_turned_38 (by decide) ?_
              refine lv_istore (lv' := [(5, .int (sg_h v)), (4, .int (sg_l v)), (0, .int (sg_l v)), (1, .int (sg_h v)), (2, .int (nI n)), (3, .int (nI 0))]) hx hb dX0_turned_42 hl (by decide) rfl (fun ls hl => ?_)
              refine lv_iload_n hx hb dX0_turned_44 rfl (lv_at hl 4 rfl) ?_
              refine lv_bipush (v := nI 32) hx hb dX0_turned_45 kb_32 ?_
              refine sp_irem (z := n % 32) hx hb (by omega) (by decide) (by decide) rfl dX0_turned_47 ?_
              refine lv_istore (lv' := [(6, .int (nI (n % 32))), (5, .int (sg_h v)), (4, .int (sg_l v)), (0, .int (sg_l v)), (1, .int (sg_h v)), (2, .int (nI n)), (3, .int (nI 0))]) hx hb dX0_turned_48 hl (by decide) rfl (fun ls hl => ?_)
              refine lv_iload hx hb dX0_turned_50 (lv_at hl 0 rfl) ?_
              refine sp_ifn (tgt := 60) hx hb (by omega) dX0_turned_52 (by decide) (fun c5 => ?_) (fun c5 => ?_)
              · refine lv_iload hx hb dX0_turned_60 (lv_at hl 2 rfl) ?_
                refine lv_iload hx hb dX0_turned_62 (lv_at hl 0 rfl) ?_
                refine lv_ishl hx hb dX0_turned_64 ?_
                refine lv_iload hx hb dX0_turned_65 (lv_at hl 1 rfl) ?_
                refine lv_bipush (v := nI 32) hx hb dX0_turned_67 kb_32 ?_
                refine lv_iload hx hb dX0_turned_69 (lv_at hl 0 rfl) ?_
                refine sp_isub (z := 32 - (n % 32)) hx hb (by omega) rfl dX0_turned_71 ?_
                refine lv_iushr hx hb dX0_turned_72 rfl ?_
                refine lv_ior hx hb dX0_turned_73 ?_
                exact W.iret hx hb hr (fun t ht hW => ⟨⟨_, (), rfl, by rw [if_pos rfl, ← sg_tv1 v h32, sg_tv, if_neg c5], trivial⟩, sp_F0 ht⟩) (fun q h => by cases h) dX0_turned_74
              · refine lv_iload hx hb dX0_turned_55 (lv_at hl 2 rfl) ?_
                refine lv_goto (tgt := 74) hx hb dX0_turned_57 (by decide) ?_
                exact W.iret hx hb hr (fun t ht hW => ⟨⟨_, (), rfl, by rw [if_pos rfl, ← sg_tv1 v h32, sg_tv, if_pos c5], trivial⟩, sp_F0 ht⟩) (fun q h => by cases h) dX0_turned_74
    · refine lv_iload_n hx hb dX0_turned_0 rfl (lv_at hl 2 rfl) ?_
      refine lv_bipush (v := nI 32) hx hb dX0_turned_1 kb_32 ?_
      refine sp_ge (tgt := 10) hx hb (by omega) (by omega)  dX0_turned_3 (by decide) (fun c1 => ?_) (fun c1 => ?_)
      · exact absurd c1 (by omega)
      · refine lv_iconst (v := nI 1) hx hb dX0_turned_6 kc_1 ?_
        refine lv_goto (tgt := 11) hx hb dX0_turned_7 (by decide) ?_
        refine lv_iload_n hx hb dX0_turned_11 rfl (lv_at hl 3 rfl) ?_
        refine sp_eq (tgt := 19) hx hb (by omega) (by omega)  dX0_turned_12 (by decide) (fun c2 => ?_) (fun c2 => ?_)
        · refine lv_iload_n hx hb dX0_turned_19 rfl (lv_at hl 1 rfl) ?_
          refine lv_istore (lv' := [(4, .int (sg_h v)), (0, .int (sg_l v)), (1, .int (sg_h v)), (2, .int (nI n)), (3, .int (nI 1))]) hx hb dX0_turned_20 hl (by decide) rfl (fun ls hl => ?_)
          refine lv_iload_n hx hb dX0_turned_22 rfl (lv_at hl 3 rfl) ?_
          refine lv_bipush (v := nI 32) hx hb dX0_turned_23 kb_32 ?_
          refine sp_ge (tgt := 32) hx hb (by omega) (by omega)  dX0_turned_25 (by decide) (fun c3 => ?_) (fun c3 => ?_)
          · exact absurd c3 (by omega)
          · refine lv_iconst (v := nI 1) hx hb dX0_turned_28 kc_1 ?_
            refine lv_goto (tgt := 33) hx hb dX0_turned_29 (by decide) ?_
            refine lv_iload_n hx hb dX0_turned_33 rfl (lv_at hl 4 rfl) ?_
            refine sp_eq (tgt := 41) hx hb (by omega) (by omega)  dX0_turned_34 (by decide) (fun c4 => ?_) (fun c4 => ?_)
            · refine lv_iload_n hx hb dX0_turned_41 rfl (lv_at hl 1 rfl) ?_
              refine lv_istore (lv' := [(5, .int (sg_l v)), (4, .int (sg_h v)), (0, .int (sg_l v)), (1, .int (sg_h v)), (2, .int (nI n)), (3, .int (nI 1))]) hx hb dX0_turned_42 hl (by decide) rfl (fun ls hl => ?_)
              refine lv_iload_n hx hb dX0_turned_44 rfl (lv_at hl 4 rfl) ?_
              refine lv_bipush (v := nI 32) hx hb dX0_turned_45 kb_32 ?_
              refine sp_irem (z := n % 32) hx hb (by omega) (by decide) (by decide) rfl dX0_turned_47 ?_
              refine lv_istore (lv' := [(6, .int (nI (n % 32))), (5, .int (sg_l v)), (4, .int (sg_h v)), (0, .int (sg_l v)), (1, .int (sg_h v)), (2, .int (nI n)), (3, .int (nI 1))]) hx hb dX0_turned_48 hl (by decide) rfl (fun ls hl => ?_)
              refine lv_iload hx hb dX0_turned_50 (lv_at hl 0 rfl) ?_
              refine sp_ifn (tgt := 60) hx hb (by omega) dX0_turned_52 (by decide) (fun c5 => ?_) (fun c5 => ?_)
              · refine lv_iload hx hb dX0_turned_60 (lv_at hl 2 rfl) ?_
                refine lv_iload hx hb dX0_turned_62 (lv_at hl 0 rfl) ?_
                refine lv_ishl hx hb dX0_turned_64 ?_
                refine lv_iload hx hb dX0_turned_65 (lv_at hl 1 rfl) ?_
                refine lv_bipush (v := nI 32) hx hb dX0_turned_67 kb_32 ?_
                refine lv_iload hx hb dX0_turned_69 (lv_at hl 0 rfl) ?_
                refine sp_isub (z := 32 - (n % 32)) hx hb (by omega) rfl dX0_turned_71 ?_
                refine lv_iushr hx hb dX0_turned_72 rfl ?_
                refine lv_ior hx hb dX0_turned_73 ?_
                exact W.iret hx hb hr (fun t ht hW => ⟨⟨_, (), rfl, by rw [if_neg (by decide), ← sg_tv2 v h32, sg_tv, if_neg c5], trivial⟩, sp_F0 ht⟩) (fun q h => by cases h) dX0_turned_74
              · refine lv_iload hx hb dX0_turned_55 (lv_at hl 2 rfl) ?_
                refine lv_goto (tgt := 74) hx hb dX0_turned_57 (by decide) ?_
                exact W.iret hx hb hr (fun t ht hW => ⟨⟨_, (), rfl, by rw [if_neg (by decide), ← sg_tv2 v h32, sg_tv, if_pos c5], trivial⟩, sp_F0 ht⟩) (fun q h => by cases h) dX0_turned_74
            · exact absurd c4 (by omega)
        · exact absurd c2 (by omega)
  · rcases (show z = 0 ∨ z = 1 by omega) with rfl | rfl
    · refine lv_iload_n hx hb dX0_turned_0 rfl (lv_at hl 2 rfl) ?_
      refine lv_bipush (v := nI 32) hx hb dX0_turned_1 kb_32 ?_
      refine sp_ge (tgt := 10) hx hb (by omega) (by omega)  dX0_turned_3 (by decide) (fun c1 => ?_) (fun c1 => ?_)
      · refine lv_iconst (v := nI 0) hx hb dX0_turned_10 kc_0 ?_
        refine lv_iload_n hx hb dX0_turned_11 rfl (lv_at hl 3 rfl) ?_
        refine sp_eq (tgt := 19) hx hb (by omega) (by omega)  dX0_turned_12 (by decide) (fun c2 => ?_) (fun c2 => ?_)
        · refine lv_iload_n hx hb dX0_turned_19 rfl (lv_at hl 1 rfl) ?_
          refine lv_istore (lv' := [(4, .int (sg_h v)), (0, .int (sg_l v)), (1, .int (sg_h v)), (2, .int (nI n)), (3, .int (nI 0))]) hx hb dX0_turned_20 hl (by decide) rfl (fun ls hl => ?_)
          refine lv_iload_n hx hb dX0_turned_22 rfl (lv_at hl 3 rfl) ?_
          refine lv_bipush (v := nI 32) hx hb dX0_turned_23 kb_32 ?_
          refine sp_ge (tgt := 32) hx hb (by omega) (by omega)  dX0_turned_25 (by decide) (fun c3 => ?_) (fun c3 => ?_)
          · refine lv_iconst (v := nI 0) hx hb dX0_turned_32 kc_0 ?_
            refine lv_iload_n hx hb dX0_turned_33 rfl (lv_at hl 4 rfl) ?_
            refine sp_eq (tgt := 41) hx hb (by omega) (by omega)  dX0_turned_34 (by decide) (fun c4 => ?_) (fun c4 => ?_)
            · refine lv_iload_n hx hb dX0_turned_41 rfl (lv_at hl 1 rfl) ?_
              refine lv_istore (lv' := [(5, .int (sg_l v)), (4, .int (sg_h v)), (0, .int (sg_l v)), (1, .int (sg_h v)), (2, .int (nI n)), (3, .int (nI 0))]) hx hb dX0_turned_42 hl (by decide) rfl (fun ls hl => ?_)
              refine lv_iload_n hx hb dX0_turned_44 rfl (lv_at hl 4 rfl) ?_
              refine lv_bipush (v := nI 32) hx hb dX0_turned_45 kb_32 ?_
              refine sp_irem (z := n % 32) hx hb (by omega) (by decide) (by decide) rfl dX0_turned_47 ?_
              refine lv_istore (lv' := [(6, .int (nI (n % 32))), (5, .int (sg_l v)), (4, .int (sg_h v)), (0, .int (sg_l v)), (1, .int (sg_h v)), (2, .int (nI n)), (3, .int (nI 0))]) hx hb dX0_turned_48 hl (by decide) rfl (fun ls hl => ?_)
              refine lv_iload hx hb dX0_turned_50 (lv_at hl 0 rfl) ?_
              refine sp_ifn (tgt := 60) hx hb (by omega) dX0_turned_52 (by decide) (fun c5 => ?_) (fun c5 => ?_)
              · refine lv_iload hx hb dX0_turned_60 (lv_at hl 2 rfl) ?_
                refine lv_iload hx hb dX0_turned_62 (lv_at hl 0 rfl) ?_
                refine lv_ishl hx hb dX0_turned_64 ?_
                refine lv_iload hx hb dX0_turned_65 (lv_at hl 1 rfl) ?_
                refine lv_bipush (v := nI 32) hx hb dX0_turned_67 kb_32 ?_
                refine lv_iload hx hb dX0_turned_69 (lv_at hl 0 rfl) ?_
                refine sp_isub (z := 32 - (n % 32)) hx hb (by omega) rfl dX0_turned_71 ?_
                refine lv_iushr hx hb dX0_turned_72 rfl ?_
                refine lv_ior hx hb dX0_turned_73 ?_
                exact W.iret hx hb hr (fun t ht hW => ⟨⟨_, (), rfl, by rw [if_pos rfl, ← sg_tv3 v h32 hn, sg_tv, if_neg c5], trivial⟩, sp_F0 ht⟩) (fun q h => by cases h) dX0_turned_74
              · refine lv_iload hx hb dX0_turned_55 (lv_at hl 2 rfl) ?_
                refine lv_goto (tgt := 74) hx hb dX0_turned_57 (by decide) ?_
                exact W.iret hx hb hr (fun t ht hW => ⟨⟨_, (), rfl, by rw [if_pos rfl, ← sg_tv3 v h32 hn, sg_tv, if_pos c5], trivial⟩, sp_F0 ht⟩) (fun q h => by cases h) dX0_turned_74
            · exact absurd c4 (by omega)
          · exact absurd c3 (by omega)
        · exact absurd c2 (by omega)
      · exact absurd c1 (by omega)
    · refine lv_iload_n hx hb dX0_turned_0 rfl (lv_at hl 2 rfl) ?_
      refine lv_bipush (v := nI 32) hx hb dX0_turned_1 kb_32 ?_
      refine sp_ge (tgt := 10) hx hb (by omega) (by omega)  dX0_turned_3 (by decide) (fun c1 => ?_) (fun c1 => ?_)
      · refine lv_iconst (v := nI 0) hx hb dX0_turned_10 kc_0 ?_
        refine lv_iload_n hx hb dX0_turned_11 rfl (lv_at hl 3 rfl) ?_
        refine sp_eq (tgt := 19) hx hb (by omega) (by omega)  dX0_turned_12 (by decide) (fun c2 => ?_) (fun c2 => ?_)
        · exact absurd c2 (by omega)
        · refine lv_iload_n hx hb dX0_turned_15 rfl (lv_at hl 0 rfl) ?_
          refine lv_goto (tgt := 20) hx hb dX0_turned_16 (by decide) ?_
          refine lv_istore (lv' := [(4, .int (sg_l v)), (0, .int (sg_l v)), (1, .int (sg_h v)), (2, .int (nI n)), (3, .int (nI 1))]) hx hb dX0_turned_20 hl (by decide) rfl (fun ls hl => ?_)
          refine lv_iload_n hx hb dX0_turned_22 rfl (lv_at hl 3 rfl) ?_
          refine lv_bipush (v := nI 32) hx hb dX0_turned_23 kb_32 ?_
          refine sp_ge (tgt := 32) hx hb (by omega) (by omega)  dX0_turned_25 (by decide) (fun c3 => ?_) (fun c3 => ?_)
          · refine lv_iconst (v := nI 0) hx hb dX0_turned_32 kc_0 ?_
            refine lv_iload_n hx hb dX0_turned_33 rfl (lv_at hl 4 rfl) ?_
            refine sp_eq (tgt := 41) hx hb (by omega) (by omega)  dX0_turned_34 (by decide) (fun c4 => ?_) (fun c4 => ?_)
            · exact absurd c4 (by omega)
            · refine lv_iload_n hx hb dX0_turned_37 rfl (lv_at hl 2 rfl) ?_
              refine lv_goto (tgt := 42) hx hb dX0_turned_38 (by decide) ?_
              refine lv_istore (lv' := [(5, .int (sg_h v)), (4, .int (sg_l v)), (0, .int (sg_l v)), (1, .int (sg_h v)), (2, .int (nI n)), (3, .int (nI 1))]) hx hb dX0_turned_42 hl (by decide) rfl (fun ls hl => ?_)
              refine lv_iload_n hx hb dX0_turned_44 rfl (lv_at hl 4 rfl) ?_
              refine lv_bipush (v := nI 32) hx hb dX0_turned_45 kb_32 ?_
              refine sp_irem (z := n % 32) hx hb (by omega) (by decide) (by decide) rfl dX0_turned_47 ?_
              refine lv_istore (lv' := [(6, .int (nI (n % 32))), (5, .int (sg_h v)), (4, .int (sg_l v)), (0, .int (sg_l v)), (1, .int (sg_h v)), (2, .int (nI n)), (3, .int (nI 1))]) hx hb dX0_turned_48 hl (by decide) rfl (fun ls hl => ?_)
              refine lv_iload hx hb dX0_turned_50 (lv_at hl 0 rfl) ?_
              refine sp_ifn (tgt := 60) hx hb (by omega) dX0_turned_52 (by decide) (fun c5 => ?_) (fun c5 => ?_)
              · refine lv_iload hx hb dX0_turned_60 (lv_at hl 2 rfl) ?_
                refine lv_iload hx hb dX0_turned_62 (lv_at hl 0 rfl) ?_
                refine lv_ishl hx hb dX0_turned_64 ?_
                refine lv_iload hx hb dX0_turned_65 (lv_at hl 1 rfl) ?_
                refine lv_bipush (v := nI 32) hx hb dX0_turned_67 kb_32 ?_
                refine lv_iload hx hb dX0_turned_69 (lv_at hl 0 rfl) ?_
                refine sp_isub (z := 32 - (n % 32)) hx hb (by omega) rfl dX0_turned_71 ?_
                refine lv_iushr hx hb dX0_turned_72 rfl ?_
                refine lv_ior hx hb dX0_turned_73 ?_
                exact W.iret hx hb hr (fun t ht hW => ⟨⟨_, (), rfl, by rw [if_neg (by decide), ← sg_tv4 v h32 hn, sg_tv, if_neg c5], trivial⟩, sp_F0 ht⟩) (fun q h => by cases h) dX0_turned_74
              · refine lv_iload hx hb dX0_turned_55 (lv_at hl 2 rfl) ?_
                refine lv_goto (tgt := 74) hx hb dX0_turned_57 (by decide) ?_
                exact W.iret hx hb hr (fun t ht hW => ⟨⟨_, (), rfl, by rw [if_neg (by decide), ← sg_tv4 v h32 hn, sg_tv, if_pos c5], trivial⟩, sp_F0 ht⟩) (fun q h => by cases h) dX0_turned_74
          · exact absurd c3 (by omega)
      · exact absurd c1 (by omega)
set_option maxHeartbeats 4000000 in
set_option maxRecDepth 100000 in
/-- up: a lane turned up by n -/
theorem met_up (l : Launch) (v : BitVec 64) (n : Nat) (hn : n < 64) : Met l yX1_up (ws_ yX1_up cX1_up 3 (some .long)) { frames := 0, cells := 0, slots := 0, locals := 0 } (va_Pc [.long (sg_w v), .int (nI n)] (fun _ => True)) (va_Ql (fun (r : Int64) (_ : Unit) => r = sg_w (sg_rot v n)) (fun _ _ => True) (fun _ => False)) 0 0 (fun _ => False) := by
  refine Met.ofW (cc := cX1_up) (maxL := 3) (ret := (some .long)) (by decide) rfl ?_
  intro p e s m args below meth c s₁ B hml hv
  obtain ⟨rfl, -⟩ := hv
  have hts := atoms_spec (ws := ws_ yX1_up cX1_up 3 (some .long)) B.pre
  have F : CallFix p m c cX1_up 3 s ([.long (sg_w v), .int (nI n)] : List Value).toArray lw_all RX1 := ⟨B.exec, B.bytes, hml, findClass_of_methodNamed B.named, fun w h => hts w (List.mem_cons_of_mem _ h)⟩
  have hx := F.1
  have hb := F.2.1
  have hr := B.returns
  have hlocks := B.notSynchronized
  have hl := lv_entry ([.long (sg_w v), .int (nI n)]) (n := 3) (Nat.le_of_ble_eq_true rfl)
  rw [lg_entry_eq]
  generalize (lg_sl ([.long (sg_w v), .int (nI n)]) ++ List.replicate (3 - (lg_sl ([.long (sg_w v), .int (nI n)])).length) Slot.unset).toArray = ls at hl ⊢
  have hl : lv_has ls 3 [(0, .long (sg_w v)), (2, .int (nI n))] := hl
  refine lv_iload_n hx hb dX1_up_0 rfl (lv_at hl 1 rfl) ?_
  refine sp_ifn (tgt := 8) hx hb (by omega) dX1_up_1 (by decide) (fun c1 => ?_) (fun c1 => ?_)
  · refine lv_lload_n hx hb dX1_up_8 rfl (lv_at hl 0 rfl) ?_
    refine lv_iload_n hx hb dX1_up_9 rfl (lv_at hl 1 rfl) ?_
    refine lv_lshl hx hb dX1_up_10 rfl ?_
    refine lv_lload_n hx hb dX1_up_11 rfl (lv_at hl 0 rfl) ?_
    refine lv_bipush (v := nI 64) hx hb dX1_up_12 kb_64 ?_
    refine lv_iload_n hx hb dX1_up_14 rfl (lv_at hl 1 rfl) ?_
    refine sp_isub (z := 64 - n) hx hb (by omega) rfl dX1_up_15 ?_
    refine lv_lushr hx hb dX1_up_16 rfl ?_
    refine lv_lor hx hb dX1_up_17 ?_
    exact W.lret hx hb hr (fun t ht hW => ⟨⟨_, (), rfl, sg_up v c1 hn, trivial⟩, sp_F0 ht⟩) (fun q h => by cases h) dX1_up_18
  · refine lv_lload_n hx hb dX1_up_4 rfl (lv_at hl 0 rfl) ?_
    refine lv_goto (tgt := 18) hx hb dX1_up_5 (by decide) ?_
    exact W.lret hx hb hr (fun t ht hW => ⟨⟨_, (), rfl, by rw [c1, sg_rot0], trivial⟩, sp_F0 ht⟩) (fun q h => by cases h) dX1_up_18
set_option maxHeartbeats 4000000 in
set_option maxRecDepth 100000 in
/-- rate -/
theorem met_rate (l : Launch) (w : Nat) (hw : w < 2) : Met l yX1_rate (ws_ yX1_rate cX1_rate 1 (some .int)) { frames := 0, cells := 0, slots := 0, locals := 0 } (va_Pc [.int (nI w)] (fun _ => True)) (va_Qi (fun (r : Int32) (_ : Unit) => r = nI (sg_rate w)) (fun _ _ => True) (fun _ => False)) 0 0 (fun _ => False) := by
  refine Met.ofW (cc := cX1_rate) (maxL := 1) (ret := (some .int)) (by decide) rfl ?_
  intro p e s m args below meth c s₁ B hml hv
  obtain ⟨rfl, -⟩ := hv
  have hts := atoms_spec (ws := ws_ yX1_rate cX1_rate 1 (some .int)) B.pre
  have F : CallFix p m c cX1_rate 1 s ([.int (nI w)] : List Value).toArray lw_all RX1 := ⟨B.exec, B.bytes, hml, findClass_of_methodNamed B.named, fun w h => hts w (List.mem_cons_of_mem _ h)⟩
  have hx := F.1
  have hb := F.2.1
  have hr := B.returns
  have hlocks := B.notSynchronized
  have hl := lv_entry ([.int (nI w)]) (n := 1) (Nat.le_of_ble_eq_true rfl)
  rw [lg_entry_eq]
  generalize (lg_sl ([.int (nI w)]) ++ List.replicate (1 - (lg_sl ([.int (nI w)])).length) Slot.unset).toArray = ls at hl ⊢
  have hl : lv_has ls 1 [(0, .int (nI w))] := hl
  refine lv_iload_n hx hb dX1_rate_0 rfl (lv_at hl 0 rfl) ?_
  refine sp_ifn (tgt := 10) hx hb (by omega) dX1_rate_1 (by decide) (fun c1 => ?_) (fun c1 => ?_)
  · refine lv_sipush (v := nI 168) hx hb dX1_rate_10 ks_168 ?_
    exact W.iret hx hb hr (fun t ht hW => ⟨⟨_, (), rfl, by rw [sg_rate, if_neg c1], trivial⟩, sp_F0 ht⟩) (fun q h => by cases h) dX1_rate_13
  · refine lv_sipush (v := nI 136) hx hb dX1_rate_4 ks_136 ?_
    refine lv_goto (tgt := 13) hx hb dX1_rate_7 (by decide) ?_
    exact W.iret hx hb hr (fun t ht hW => ⟨⟨_, (), rfl, by rw [sg_rate, if_pos c1], trivial⟩, sp_F0 ht⟩) (fun q h => by cases h) dX1_rate_13
end
section
/-! mixColumns; printed by gen/m_mix.py -/
set_option maxHeartbeats 4000000 in
set_option maxRecDepth 100000 in
/-- mixColumns: the rows of one column -/
theorem mc_b {p : Program} {l : Launch} {e : Env} {R : Room} {s : State} {m : MethodId} {args : Array Value} {below : List Frame} {meth : Method} {c : Code} {Q : State → Prop} {D : va_G} {A : Nat → Prop} {H0 : Heap} {ad : Nat → Nat} {d : ClassId} {lo hi rl rh rt : Nat → Int32} {rd ra su po pp li gi ta : Int32} {S : Nat → BitVec 64} {x : Nat} (F : CallFix p m c cX0_mixColumns 4 s args lw_all RX0) (hK : va_K D vwCl [(d, .int)] s) (hS : sg_LH lo hi S) (hx5 : x < 5)
    (kx : ∀ (tl th : Nat → Int32) (H : Heap) (locs : List Loc) (ls : Array Slot), (∀ i, i < x + 1 → tl i = sg_l (sg_C S i) ∧ th i = sg_h (sg_C S i)) → sp_in D A H0 (spW ad d lo hi rl rh rt tl th rd ra su po pp li gi ta) H locs → lv_has ls 4 [(0, .ref (ad 0)), (1, .int (nI x))] → W p l e R s m args below meth c H locs 0 0 Q (F0 m 69 ls [])) :
    ∀ (n j : Nat) (tl th : Nat → Int32) (H : Heap) (locs : List Loc) (ls : Array Slot), j ≤ 5 → 5 < j + n → sg_mc S x j tl th → sp_in D A H0 (spW ad d lo hi rl rh rt tl th rd ra su po pp li gi ta) H locs → lv_has ls 4 [(0, .ref (ad 0)), (1, .int (nI x)), (2, .int (nI (5 * j)))] → W p l e R s m args below meth c H locs 0 0 Q (F0 m 23 ls []) := by
  have hx := F.1
  have hb := F.2.1
  intro n
  induction n with
  | zero =>
    intro j tl th H locs ls h1 h2
    exact absurd h2 (by omega)
  | succ n ih =>
    intro j tl th H locs ls h1 h2 hinv hI hl
    refine lv_iload_n hx hb dX0_mixColumns_23 rfl (lv_at hl 2 rfl) ?_
    refine lv_bipush (v := nI 25) hx hb dX0_mixColumns_24 kb_25 ?_
    refine sp_ge (tgt := 69) hx hb (by omega) (by omega)  dX0_mixColumns_26 (by decide) (fun c1 => ?_) (fun c1 => ?_)
    · have hj : j = 5 := by omega
      subst hj
      exact kx tl th H locs ls (sg_mc5 hinv) hI (lv_sub hl [0, 1] rfl)
    · refine lv_aload_n hx hb dX0_mixColumns_29 rfl (lv_at hl 0 rfl) ?_
      refine sp_get0 (v := .ref (ad 6)) F hK hI.1 rfl 5 (by decide) q27 rfl rfl dX0_mixColumns_30 ?_
      refine lv_iload_n hx hb dX0_mixColumns_33 rfl (lv_at hl 1 rfl) ?_
      refine lv_dup2_11 hx hb dX0_mixColumns_34 rfl rfl ?_
      refine sp_iald (v := (sg_l (sg_Cp S x j))) hx hb hK hI.1 6 rfl rfl (by decide) (by omega) hinv.1.1 dX0_mixColumns_35 ?_
      refine lv_aload_n hx hb dX0_mixColumns_36 rfl (lv_at hl 0 rfl) ?_
      refine sp_get0 (v := .ref (ad 1)) F hK hI.1 rfl 0 (by decide) q22 rfl rfl dX0_mixColumns_37 ?_
      refine lv_iload_n hx hb dX0_mixColumns_40 rfl (lv_at hl 1 rfl) ?_
      refine lv_iload_n hx hb dX0_mixColumns_41 rfl (lv_at hl 2 rfl) ?_
      refine sp_iadd (z := x + (5 * j)) hx hb rfl dX0_mixColumns_42 ?_
      refine sp_iald (v := (sg_l (S (x + 5 * j)))) hx hb hK hI.1 1 rfl rfl (by decide) (by omega) (hS _ (by omega)).1 dX0_mixColumns_43 ?_
      refine lv_ixor hx hb dX0_mixColumns_44 ?_
      refine sp_topi (y := (sg_l (sg_Cp S x (j + 1)))) (by rw [sg_l_xor]; rfl) ?_
      refine sp_iast hx hb hK hI 6 rfl rfl (by decide) (by omega) dX0_mixColumns_45 (fun H locs tl1 etl1 hI => ?_)
      have hI : sp_in D A _ (spW ad d lo hi rl rh rt tl1 th rd ra su po pp li gi ta) H locs := hI
      refine lv_aload_n hx hb dX0_mixColumns_46 rfl (lv_at hl 0 rfl) ?_
      refine sp_get0 (v := .ref (ad 7)) F hK hI.1 rfl 6 (by decide) q28 rfl rfl dX0_mixColumns_47 ?_
      refine lv_iload_n hx hb dX0_mixColumns_50 rfl (lv_at hl 1 rfl) ?_
      refine lv_dup2_11 hx hb dX0_mixColumns_51 rfl rfl ?_
      refine sp_iald (v := (sg_h (sg_Cp S x j))) hx hb hK hI.1 7 rfl rfl (by decide) (by omega) hinv.1.2 dX0_mixColumns_52 ?_
      refine lv_aload_n hx hb dX0_mixColumns_53 rfl (lv_at hl 0 rfl) ?_
      refine sp_get0 (v := .ref (ad 2)) F hK hI.1 rfl 1 (by decide) q23 rfl rfl dX0_mixColumns_54 ?_
      refine lv_iload_n hx hb dX0_mixColumns_57 rfl (lv_at hl 1 rfl) ?_
      refine lv_iload_n hx hb dX0_mixColumns_58 rfl (lv_at hl 2 rfl) ?_
      refine sp_iadd (z := x + (5 * j)) hx hb rfl dX0_mixColumns_59 ?_
      refine sp_iald (v := (sg_h (S (x + 5 * j)))) hx hb hK hI.1 2 rfl rfl (by decide) (by omega) (hS _ (by omega)).2 dX0_mixColumns_60 ?_
      refine lv_ixor hx hb dX0_mixColumns_61 ?_
      refine sp_topi (y := (sg_h (sg_Cp S x (j + 1)))) (by rw [sg_h_xor]; rfl) ?_
      refine sp_iast hx hb hK hI 7 rfl rfl (by decide) (by omega) dX0_mixColumns_62 (fun H locs th1 eth1 hI => ?_)
      have hI : sp_in D A _ (spW ad d lo hi rl rh rt tl1 th1 rd ra su po pp li gi ta) H locs := hI
      have hk5 : nI (5 * j) + Int32.ofInt 5 = nI (5 * (j + 1)) := (ki_5 _).trans (congrArg nI (by omega))
      refine lv_iinc (v := (nI (5 * (j + 1)))) (lv' := [(2, .int (nI (5 * (j + 1)))), (0, .ref (ad 0)), (1, .int (nI x))]) hx hb dX0_mixColumns_63 hl (k := 2) rfl hk5 (by decide) rfl (fun ls hl => ?_)
      refine lv_goto (tgt := 23) hx hb dX0_mixColumns_66 (by decide) ?_
      exact ih (j + 1) tl1 th1 H locs ls (by omega) (by omega) (sg_mc1 hinv etl1 eth1) hI (lv_sub hl [1, 2, 0] rfl)
set_option maxHeartbeats 4000000 in
set_option maxRecDepth 100000 in
/-- mixColumns: the columns -/
theorem mc_a {p : Program} {l : Launch} {e : Env} {R : Room} {s : State} {m : MethodId} {args : Array Value} {below : List Frame} {meth : Method} {c : Code} {Q : State → Prop} {D : va_G} {A : Nat → Prop} {H0 : Heap} {ad : Nat → Nat} {d : ClassId} {lo hi rl rh rt : Nat → Int32} {rd ra su po pp li gi ta : Int32} {S : Nat → BitVec 64} (F : CallFix p m c cX0_mixColumns 4 s args lw_all RX0) (hK : va_K D vwCl [(d, .int)] s) (hS : sg_LH lo hi S)
    (kx : ∀ (tl th : Nat → Int32) (H : Heap) (locs : List Loc) (ls : Array Slot), (∀ i, i < 5 → tl i = sg_l (sg_C S i) ∧ th i = sg_h (sg_C S i)) → sp_in D A H0 (spW ad d lo hi rl rh rt tl th rd ra su po pp li gi ta) H locs → lv_has ls 4 [(0, .ref (ad 0))] → W p l e R s m args below meth c H locs 0 0 Q (F0 m 75 ls [])) :
    ∀ (n x : Nat) (tl th : Nat → Int32) (H : Heap) (locs : List Loc) (ls : Array Slot), x ≤ 5 → 5 < x + n → (∀ i, i < x → tl i = sg_l (sg_C S i) ∧ th i = sg_h (sg_C S i)) → sp_in D A H0 (spW ad d lo hi rl rh rt tl th rd ra su po pp li gi ta) H locs → lv_has ls 4 [(0, .ref (ad 0)), (1, .int (nI x))] → W p l e R s m args below meth c H locs 0 0 Q (F0 m 2 ls []) := by
  have hx := F.1
  have hb := F.2.1
  intro n
  induction n with
  | zero =>
    intro x tl th H locs ls h1 h2
    exact absurd h2 (by omega)
  | succ n ih =>
    intro x tl th H locs ls h1 h2 hinv hI hl
    refine lv_iload_n hx hb dX0_mixColumns_2 rfl (lv_at hl 1 rfl) ?_
    refine lv_iconst (v := nI 5) hx hb dX0_mixColumns_3 kc_5 ?_
    refine sp_ge (tgt := 75) hx hb (by omega) (by omega)  dX0_mixColumns_4 (by decide) (fun c1 => ?_) (fun c1 => ?_)
    · have hj : x = 5 := by omega
      subst hj
      exact kx tl th H locs ls hinv hI (lv_sub hl [0] rfl)
    · refine lv_aload_n hx hb dX0_mixColumns_7 rfl (lv_at hl 0 rfl) ?_
      refine sp_get0 (v := .ref (ad 6)) F hK hI.1 rfl 5 (by decide) q27 rfl rfl dX0_mixColumns_8 ?_
      refine lv_iload_n hx hb dX0_mixColumns_11 rfl (lv_at hl 1 rfl) ?_
      refine lv_iconst (v := nI 0) hx hb dX0_mixColumns_12 kc_0 ?_
      refine sp_iast hx hb hK hI 6 rfl rfl (by decide) (by omega) dX0_mixColumns_13 (fun H locs tl1 etl1 hI => ?_)
      have hI : sp_in D A _ (spW ad d lo hi rl rh rt tl1 th rd ra su po pp li gi ta) H locs := hI
      refine lv_aload_n hx hb dX0_mixColumns_14 rfl (lv_at hl 0 rfl) ?_
      refine sp_get0 (v := .ref (ad 7)) F hK hI.1 rfl 6 (by decide) q28 rfl rfl dX0_mixColumns_15 ?_
      refine lv_iload_n hx hb dX0_mixColumns_18 rfl (lv_at hl 1 rfl) ?_
      refine lv_iconst (v := nI 0) hx hb dX0_mixColumns_19 kc_0 ?_
      refine sp_iast hx hb hK hI 7 rfl rfl (by decide) (by omega) dX0_mixColumns_20 (fun H locs th1 eth1 hI => ?_)
      have hI : sp_in D A _ (spW ad d lo hi rl rh rt tl1 th1 rd ra su po pp li gi ta) H locs := hI
      refine lv_iconst (v := nI 0) hx hb dX0_mixColumns_21 kc_0 ?_
      refine lv_istore_n (lv' := [(2, .int (nI 0)), (0, .ref (ad 0)), (1, .int (nI x))]) hx hb dX0_mixColumns_22 rfl hl (by decide) rfl (fun ls hl => ?_)
      refine mc_b F hK hS c1 (fun tl th H locs ls hinv hI hl => ?_) 6 0 tl1 th1 H locs ls (by omega) (by omega) (sg_mc0 hinv etl1 eth1) hI (lv_sub hl [1, 2, 0] rfl)
      refine lv_iinc (v := (nI (x + 1))) (lv' := [(1, .int (nI (x + 1))), (0, .ref (ad 0))]) hx hb dX0_mixColumns_69 hl (k := 1) rfl (ki_1 _) (by decide) rfl (fun ls hl => ?_)
      refine lv_goto (tgt := 2) hx hb dX0_mixColumns_72 (by decide) ?_
      exact ih (x + 1) tl th H locs ls (by omega) (by omega) hinv hI (lv_sub hl [1, 0] rfl)
set_option maxHeartbeats 4000000 in
set_option maxRecDepth 100000 in
/-- mixColumns: the lanes -/
theorem mc_c {p : Program} {l : Launch} {e : Env} {R : Room} {s : State} {m : MethodId} {args : Array Value} {below : List Frame} {meth : Method} {c : Code} {Q : State → Prop} {D : va_G} {A : Nat → Prop} {H0 : Heap} {ad : Nat → Nat} {d : ClassId} {rl rh rt tl th : Nat → Int32} {rd ra su po pp li gi ta : Int32} {S : Nat → BitVec 64} (F : CallFix p m c cX0_mixColumns 4 s args lw_all RX0) (hK : va_K D vwCl [(d, .int)] s) (hT : ∀ i, i < 5 → tl i = sg_l (sg_C S i) ∧ th i = sg_h (sg_C S i)) (hR : 0 + 1 ≤ R.frames ∧ 8 + (7 + 11) + 0 ≤ R.locals)
    (kx : ∀ (lo hi : Nat → Int32) (H : Heap) (locs : List Loc) (ls : Array Slot), sg_LH lo hi (sg_T S) → sp_in D A H0 (spW ad d lo hi rl rh rt tl th rd ra su po pp li gi ta) H locs → lv_has ls 4 [(0, .ref (ad 0))] → W p l e R s m args below meth c H locs 0 0 Q (F0 m 171 ls [])) :
    ∀ (n k : Nat) (lo hi : Nat → Int32) (H : Heap) (locs : List Loc) (ls : Array Slot), k ≤ 25 → 25 < k + n → (∀ j, j < 25 → lo j = sg_l (if j < k then sg_T S j else S j) ∧ hi j = sg_h (if j < k then sg_T S j else S j)) → sp_in D A H0 (spW ad d lo hi rl rh rt tl th rd ra su po pp li gi ta) H locs → lv_has ls 4 [(0, .ref (ad 0)), (1, .int (nI k))] → W p l e R s m args below meth c H locs 0 0 Q (F0 m 77 ls []) := by
  have hx := F.1
  have hb := F.2.1
  intro n
  induction n with
  | zero =>
    intro k lo hi H locs ls h1 h2
    exact absurd h2 (by omega)
  | succ n ih =>
    intro k lo hi H locs ls h1 h2 hinv hI hl
    refine lv_iload_n hx hb dX0_mixColumns_77 rfl (lv_at hl 1 rfl) ?_
    refine lv_bipush (v := nI 25) hx hb dX0_mixColumns_78 kb_25 ?_
    refine sp_ge (tgt := 171) hx hb (by omega) (by omega)  dX0_mixColumns_80 (by decide) (fun c1 => ?_) (fun c1 => ?_)
    · have hj : k = 25 := by omega
      subst hj
      exact kx lo hi H locs ls (fun j hj => by have h := hinv j hj; rw [if_pos hj] at h; exact h) hI (lv_sub hl [0] rfl)
    · refine lv_iload_n hx hb dX0_mixColumns_83 rfl (lv_at hl 1 rfl) ?_
      refine lv_iconst (v := nI 4) hx hb dX0_mixColumns_84 kc_4 ?_
      refine sp_iadd (z := k + 4) hx hb rfl dX0_mixColumns_85 ?_
      refine lv_iconst (v := nI 5) hx hb dX0_mixColumns_86 kc_5 ?_
      refine sp_irem (z := (k + 4) % 5) hx hb (by omega) (by decide) (by decide) rfl dX0_mixColumns_87 ?_
      refine lv_istore_n (lv' := [(2, .int (nI ((k + 4) % 5))), (0, .ref (ad 0)), (1, .int (nI k))]) hx hb dX0_mixColumns_88 rfl hl (by decide) rfl (fun ls hl => ?_)
      refine lv_iload_n hx hb dX0_mixColumns_89 rfl (lv_at hl 2 rfl) ?_
      refine lv_iconst (v := nI 1) hx hb dX0_mixColumns_90 kc_1 ?_
      refine sp_iadd (z := k + 1) hx hb rfl dX0_mixColumns_91 ?_
      refine lv_iconst (v := nI 5) hx hb dX0_mixColumns_92 kc_5 ?_
      refine sp_irem (z := (k + 1) % 5) hx hb (by omega) (by decide) (by decide) rfl dX0_mixColumns_93 ?_
      refine lv_istore_n (lv' := [(3, .int (nI ((k + 1) % 5))), (2, .int (nI ((k + 4) % 5))), (0, .ref (ad 0)), (1, .int (nI k))]) hx hb dX0_mixColumns_94 rfl hl (by decide) rfl (fun ls hl => ?_)
      refine lv_aload_n hx hb dX0_mixColumns_95 rfl (lv_at hl 2 rfl) ?_
      refine sp_get0 (v := .ref (ad 1)) F hK hI.1 rfl 0 (by decide) q22 rfl rfl dX0_mixColumns_96 ?_
      refine lv_iload_n hx hb dX0_mixColumns_99 rfl (lv_at hl 3 rfl) ?_
      refine lv_dup2_11 hx hb dX0_mixColumns_100 rfl rfl ?_
      refine sp_iald (v := (sg_l (S k))) hx hb hK hI.1 1 rfl rfl (by decide) (by omega) ((hinv k c1).1.trans (by rw [if_neg (Nat.lt_irrefl k)])) dX0_mixColumns_101 ?_
      refine lv_aload_n hx hb dX0_mixColumns_102 rfl (lv_at hl 2 rfl) ?_
      refine sp_get0 (v := .ref (ad 6)) F hK hI.1 rfl 5 (by decide) q27 rfl rfl dX0_mixColumns_103 ?_
      refine lv_iload_n hx hb dX0_mixColumns_106 rfl (lv_at hl 1 rfl) ?_
      refine lv_iconst (v := nI 5) hx hb dX0_mixColumns_107 kc_5 ?_
      refine sp_irem (z := (k + 4) % 5) hx hb (by omega) (by decide) (by decide) (Nat.mod_mod _ _) dX0_mixColumns_108 ?_
      refine sp_iald (v := (sg_l (sg_C S ((k + 4) % 5)))) hx hb hK hI.1 6 rfl rfl (by decide) (by omega) (hT _ (by omega)).1 dX0_mixColumns_109 ?_
      refine lv_aload_n hx hb dX0_mixColumns_110 rfl (lv_at hl 2 rfl) ?_
      refine sp_get0 (v := .ref (ad 6)) F hK hI.1 rfl 5 (by decide) q27 rfl rfl dX0_mixColumns_111 ?_
      refine lv_iload_n hx hb dX0_mixColumns_114 rfl (lv_at hl 0 rfl) ?_
      refine sp_iald (v := (sg_l (sg_C S ((k + 1) % 5)))) hx hb hK hI.1 6 rfl rfl (by decide) (by omega) (hT _ (by omega)).1 dX0_mixColumns_115 ?_
      refine lv_aload_n hx hb dX0_mixColumns_116 rfl (lv_at hl 2 rfl) ?_
      refine sp_get0 (v := .ref (ad 7)) F hK hI.1 rfl 6 (by decide) q28 rfl rfl dX0_mixColumns_117 ?_
      refine lv_iload_n hx hb dX0_mixColumns_120 rfl (lv_at hl 0 rfl) ?_
      refine sp_iald (v := (sg_h (sg_C S ((k + 1) % 5)))) hx hb hK hI.1 7 rfl rfl (by decide) (by omega) (hT _ (by omega)).2 dX0_mixColumns_121 ?_
      refine lv_iconst (v := nI 1) hx hb dX0_mixColumns_122 kc_1 ?_
      refine lv_iconst (v := nI 0) hx hb dX0_mixColumns_123 kc_0 ?_
      refine sp_callSi 4 F (met_turned l (sg_C S ((k + 1) % 5)) 1 0 (by decide) (by decide)) (lw_S q93 q94 q12 q95) rfl rfl (by decide +kernel) hR hI rfl hl.1 rfl (Nat.le_of_ble_eq_true rfl) dX0_mixColumns_124 (fun r H locs hr1 hI => ?_)
      refine sp_topi (y := (sg_l (sg_rot (sg_C S ((k + 1) % 5)) 1))) (hr1.trans (if_pos rfl)) ?_
      refine lv_ixor hx hb dX0_mixColumns_127 ?_
      refine lv_ixor hx hb dX0_mixColumns_128 ?_
      refine sp_topi (y := (sg_l (sg_T S k))) (by rw [sg_l_xor, sg_l_xor]; rfl) ?_
      refine sp_iast hx hb hK hI 1 rfl rfl (by decide) (by omega) dX0_mixColumns_129 (fun H locs lo1 elo1 hI => ?_)
      have hI : sp_in D A _ (spW ad d lo1 hi rl rh rt tl th rd ra su po pp li gi ta) H locs := hI
      refine lv_aload_n hx hb dX0_mixColumns_130 rfl (lv_at hl 2 rfl) ?_
      refine sp_get0 (v := .ref (ad 2)) F hK hI.1 rfl 1 (by decide) q23 rfl rfl dX0_mixColumns_131 ?_
      refine lv_iload_n hx hb dX0_mixColumns_134 rfl (lv_at hl 3 rfl) ?_
      refine lv_dup2_11 hx hb dX0_mixColumns_135 rfl rfl ?_
      refine sp_iald (v := (sg_h (S k))) hx hb hK hI.1 2 rfl rfl (by decide) (by omega) ((hinv k c1).2.trans (by rw [if_neg (Nat.lt_irrefl k)])) dX0_mixColumns_136 ?_
      refine lv_aload_n hx hb dX0_mixColumns_137 rfl (lv_at hl 2 rfl) ?_
      refine sp_get0 (v := .ref (ad 7)) F hK hI.1 rfl 6 (by decide) q28 rfl rfl dX0_mixColumns_138 ?_
      refine lv_iload_n hx hb dX0_mixColumns_141 rfl (lv_at hl 1 rfl) ?_
      refine lv_iconst (v := nI 5) hx hb dX0_mixColumns_142 kc_5 ?_
      refine sp_irem (z := (k + 4) % 5) hx hb (by omega) (by decide) (by decide) (Nat.mod_mod _ _) dX0_mixColumns_143 ?_
      refine sp_iald (v := (sg_h (sg_C S ((k + 4) % 5)))) hx hb hK hI.1 7 rfl rfl (by decide) (by omega) (hT _ (by omega)).2 dX0_mixColumns_144 ?_
      refine lv_aload_n hx hb dX0_mixColumns_145 rfl (lv_at hl 2 rfl) ?_
      refine sp_get0 (v := .ref (ad 6)) F hK hI.1 rfl 5 (by decide) q27 rfl rfl dX0_mixColumns_146 ?_
      refine lv_iload_n hx hb dX0_mixColumns_149 rfl (lv_at hl 0 rfl) ?_
      refine sp_iald (v := (sg_l (sg_C S ((k + 1) % 5)))) hx hb hK hI.1 6 rfl rfl (by decide) (by omega) (hT _ (by omega)).1 dX0_mixColumns_150 ?_
      refine lv_aload_n hx hb dX0_mixColumns_151 rfl (lv_at hl 2 rfl) ?_
      refine sp_get0 (v := .ref (ad 7)) F hK hI.1 rfl 6 (by decide) q28 rfl rfl dX0_mixColumns_152 ?_
      refine lv_iload_n hx hb dX0_mixColumns_155 rfl (lv_at hl 0 rfl) ?_
      refine sp_iald (v := (sg_h (sg_C S ((k + 1) % 5)))) hx hb hK hI.1 7 rfl rfl (by decide) (by omega) (hT _ (by omega)).2 dX0_mixColumns_156 ?_
      refine lv_iconst (v := nI 1) hx hb dX0_mixColumns_157 kc_1 ?_
      refine lv_iconst (v := nI 1) hx hb dX0_mixColumns_158 kc_1 ?_
      refine sp_callSi 4 F (met_turned l (sg_C S ((k + 1) % 5)) 1 1 (by decide) (by decide)) (lw_S q93 q94 q12 q95) rfl rfl (by decide +kernel) hR hI rfl hl.1 rfl (Nat.le_of_ble_eq_true rfl) dX0_mixColumns_159 (fun r H locs hr2 hI => ?_)
      refine sp_topi (y := (sg_h (sg_rot (sg_C S ((k + 1) % 5)) 1))) (hr2.trans (if_neg (by decide))) ?_
      refine lv_ixor hx hb dX0_mixColumns_162 ?_
      refine lv_ixor hx hb dX0_mixColumns_163 ?_
      refine sp_topi (y := (sg_h (sg_T S k))) (by rw [sg_h_xor, sg_h_xor]; rfl) ?_
      refine sp_iast hx hb hK hI 2 rfl rfl (by decide) (by omega) dX0_mixColumns_164 (fun H locs hi1 ehi1 hI => ?_)
      have hI : sp_in D A _ (spW ad d lo1 hi1 rl rh rt tl th rd ra su po pp li gi ta) H locs := hI
      refine lv_iinc (v := (nI (k + 1))) (lv' := [(1, .int (nI (k + 1))), (3, .int (nI ((k + 1) % 5))), (2, .int (nI ((k + 4) % 5))), (0, .ref (ad 0))]) hx hb dX0_mixColumns_165 hl (k := 3) rfl (ki_1 _) (by decide) rfl (fun ls hl => ?_)
      refine lv_goto (tgt := 77) hx hb dX0_mixColumns_168 (by decide) ?_
      exact ih (k + 1) lo1 hi1 H locs ls (by omega) (by omega) (sg_step2 hinv elo1 ehi1) hI (lv_sub hl [3, 0] rfl)
set_option maxHeartbeats 4000000 in
set_option maxRecDepth 100000 in
/-- mixColumns: theta -/
theorem met_mixColumns (l : Launch) (D : va_G) (ad : Nat → Nat) (d : ClassId) (sz : Nat) (lo hi rl rh rt tl th : Nat → Int32) (rd ra su po pp li gi ta : Int32) (S : Nat → BitVec 64) (hS : sg_LH lo hi S) : Met l yX0_mixColumns (ws_ yX0_mixColumns cX0_mixColumns 4 none) { frames := 1, cells := 0, slots := 0, locals := 26 } (va_Pc [.ref (ad 0)] (sp_pre D [(d, .int)] sz (spW ad d lo hi rl rh rt tl th rd ra su po pp li gi ta))) (va_Qv (fun x : Nat → Nat → Int32 => sg_LH (x 0) (x 1) (sg_T S)) (sp_end D [(d, .int)] (va_A (spW ad d lo hi rl rh rt tl th rd ra su po pp li gi ta) sz) (fun x : Nat → Nat → Int32 => spW ad d (x 0) (x 1) rl rh rt (x 2) (x 3) rd ra su po pp li gi ta)) (va_A (spW ad d lo hi rl rh rt tl th rd ra su po pp li gi ta) sz)) 0 0 (va_A (spW ad d lo hi rl rh rt tl th rd ra su po pp li gi ta) sz) := by
  refine Met.ofW (cc := cX0_mixColumns) (maxL := 4) (ret := none) (by decide) rfl ?_
  intro p e s m args below meth c s₁ B hml hv
  obtain ⟨rfl, hsz, hP, hK, hD0⟩ := hv
  subst hsz
  have hts := atoms_spec (ws := ws_ yX0_mixColumns cX0_mixColumns 4 none) B.pre
  have F : CallFix p m c cX0_mixColumns 4 s ([.ref (ad 0)] : List Value).toArray lw_all RX0 := ⟨B.exec, B.bytes, hml, findClass_of_methodNamed B.named, fun w h => hts w (List.mem_cons_of_mem _ h)⟩
  have hx := F.1
  have hb := F.2.1
  have hr := B.returns
  have hlocks := B.notSynchronized
  have hD := hD0.self (sz := s.heap.size)
  generalize hAe : va_A (spW ad d lo hi rl rh rt tl th rd ra su po pp li gi ta) s.heap.size = A at hD ⊢
  have hA : ∀ q : Nat, s.heap.size ≤ q → A q := fun q h => by rw [← hAe]; exact Or.inr h
  have hI : sp_in D A s.heap (spW ad d lo hi rl rh rt tl th rd ra su po pp li gi ta) s.heap [] := ⟨hP, hD, va_S.rf⟩
  have hl := lv_entry ([.ref (ad 0)]) (n := 4) (Nat.le_of_ble_eq_true rfl)
  rw [lg_entry_eq]
  generalize (lg_sl ([.ref (ad 0)]) ++ List.replicate (4 - (lg_sl ([.ref (ad 0)])).length) Slot.unset).toArray = ls at hl ⊢
  have hl : lv_has ls 4 [(0, .ref (ad 0))] := hl
  have hR : 0 + 1 ≤ (headSpec (ws_ yX0_mixColumns cX0_mixColumns 4 none) { frames := 1, cells := 0, slots := 0, locals := 26 }).room.frames ∧ 8 + (7 + 11) + 0 ≤ (headSpec (ws_ yX0_mixColumns cX0_mixColumns 4 none) { frames := 1, cells := 0, slots := 0, locals := 26 }).room.locals := ⟨Nat.le_of_ble_eq_true rfl, Nat.le_of_ble_eq_true rfl⟩
  refine lv_iconst (v := nI 0) hx hb dX0_mixColumns_0 kc_0 ?_
  refine lv_istore_n (lv' := [(1, .int (nI 0)), (0, .ref (ad 0))]) hx hb dX0_mixColumns_1 rfl hl (by decide) rfl (fun ls hl => ?_)
  refine mc_a F hK hS (fun tl th H locs ls hT hI hl => ?_) 6 0 tl th _ _ ls (by omega) (by omega) (fun i h => absurd h (by omega)) hI (lv_sub hl [1, 0] rfl)
  refine lv_iconst (v := nI 0) hx hb dX0_mixColumns_75 kc_0 ?_
  refine lv_istore_n (lv' := [(1, .int (nI 0)), (0, .ref (ad 0))]) hx hb dX0_mixColumns_76 rfl hl (by decide) rfl (fun ls hl => ?_)
  refine mc_c F hK hT hR (fun lo hi H locs ls hT hI hl => ?_) 26 0 lo hi _ _ ls (by omega) (by omega) (fun j hj => by rw [if_neg (Nat.not_lt_zero j)]; exact hS j hj) hI (lv_sub hl [1, 0] rfl)
  exact W.vret hx hb hr (fun t ht hW => ⟨⟨sg_f4 lo hi tl th, rfl, hT, by rw [ht]; exact hI.1, va_K.moved hW.alike hK, hI.2.1⟩, hI.2.2.F ht⟩) hI.2.2.2.2 dX0_mixColumns_171
end
section
/-! move, mixRows; printed by gen/m_move.py -/
set_option maxHeartbeats 4000000 in
set_option maxRecDepth 100000 in
/-- move: one column -/
theorem mo_b {p : Program} {l : Launch} {e : Env} {R : Room} {s : State} {m : MethodId} {args : Array Value} {below : List Frame} {meth : Method} {c : Code} {Q : State → Prop} {D : va_G} {A : Nat → Prop} {H0 : Heap} {ad : Nat → Nat} {d : ClassId} {lo hi rl rh rt : Nat → Int32} {rd ra su po pp li gi ta : Int32} {S : Nat → BitVec 64} {x : Nat} (F : CallFix p m c cX0_move 5 s args lw_all RX0) (hK : va_K D vwCl [(d, .int)] s) (hS : sg_LH lo hi S) (hT : ∀ k, k < 25 → rt k = nI (sg_R k)) (hR : 0 + 1 ≤ R.frames ∧ 8 + (7 + 11) + 0 ≤ R.locals) (hx5 : x < 5)
    (kx : ∀ (tl th : Nat → Int32) (H : Heap) (locs : List Loc) (ls : Array Slot), sg_mv S (x + 1) 0 tl th → sp_in D A H0 (spW ad d lo hi rl rh rt tl th rd ra su po pp li gi ta) H locs → lv_has ls 5 [(0, .ref (ad 0)), (1, .int (nI x))] → W p l e R s m args below meth c H locs 0 0 Q (F0 m 99 ls [])) :
    ∀ (n y : Nat) (tl th : Nat → Int32) (H : Heap) (locs : List Loc) (ls : Array Slot), y ≤ 5 → 5 < y + n → sg_mv S x y tl th → sp_in D A H0 (spW ad d lo hi rl rh rt tl th rd ra su po pp li gi ta) H locs → lv_has ls 5 [(0, .ref (ad 0)), (1, .int (nI x)), (2, .int (nI y))] → W p l e R s m args below meth c H locs 0 0 Q (F0 m 9 ls []) := by
  have hx := F.1
  have hb := F.2.1
  intro n
  induction n with
  | zero =>
    intro y tl th H locs ls h1 h2
    exact absurd h2 (by omega)
  | succ n ih =>
    intro y tl th H locs ls h1 h2 hinv hI hl
    refine lv_iload_n hx hb dX0_move_9 rfl (lv_at hl 2 rfl) ?_
    refine lv_iconst (v := nI 5) hx hb dX0_move_10 kc_5 ?_
    refine sp_ge (tgt := 99) hx hb (by omega) (by omega)  dX0_move_11 (by decide) (fun c1 => ?_) (fun c1 => ?_)
    · have hj : y = 5 := by omega
      subst hj
      exact kx tl th H locs ls (sg_mvn hinv) hI (lv_sub hl [0, 1] rfl)
    · refine lv_iload_n hx hb dX0_move_14 rfl (lv_at hl 1 rfl) ?_
      refine lv_iconst (v := nI 5) hx hb dX0_move_15 kc_5 ?_
      refine lv_iload_n hx hb dX0_move_16 rfl (lv_at hl 2 rfl) ?_
      refine sp_imul (z := 5 * y) hx hb rfl dX0_move_17 ?_
      refine sp_iadd (z := x + (5 * y)) hx hb rfl dX0_move_18 ?_
      refine lv_istore_n (lv' := [(3, .int (nI (x + (5 * y)))), (0, .ref (ad 0)), (1, .int (nI x)), (2, .int (nI y))]) hx hb dX0_move_19 rfl hl (by decide) rfl (fun ls hl => ?_)
      refine lv_iload_n hx hb dX0_move_20 rfl (lv_at hl 3 rfl) ?_
      refine lv_iconst (v := nI 5) hx hb dX0_move_21 kc_5 ?_
      refine lv_iconst (v := nI 2) hx hb dX0_move_22 kc_2 ?_
      refine lv_iload_n hx hb dX0_move_23 rfl (lv_at hl 2 rfl) ?_
      refine sp_imul (z := 2 * x) hx hb rfl dX0_move_24 ?_
      refine lv_iconst (v := nI 3) hx hb dX0_move_25 kc_3 ?_
      refine lv_iload_n hx hb dX0_move_26 rfl (lv_at hl 3 rfl) ?_
      refine sp_imul (z := 3 * y) hx hb rfl dX0_move_27 ?_
      refine sp_iadd (z := (2 * x) + (3 * y)) hx hb rfl dX0_move_28 ?_
      refine lv_iconst (v := nI 5) hx hb dX0_move_29 kc_5 ?_
      refine sp_irem (z := ((2 * x) + (3 * y)) % 5) hx hb (by omega) (by decide) (by decide) rfl dX0_move_30 ?_
      refine sp_imul (z := 5 * (((2 * x) + (3 * y)) % 5)) hx hb rfl dX0_move_31 ?_
      refine sp_iadd (z := y + (5 * (((2 * x) + (3 * y)) % 5))) hx hb rfl dX0_move_32 ?_
      refine lv_istore (lv' := [(4, .int (nI (y + (5 * (((2 * x) + (3 * y)) % 5))))), (3, .int (nI (x + (5 * y)))), (0, .ref (ad 0)), (1, .int (nI x)), (2, .int (nI y))]) hx hb dX0_move_33 hl (by decide) rfl (fun ls hl => ?_)
      refine lv_aload_n hx hb dX0_move_35 rfl (lv_at hl 2 rfl) ?_
      refine sp_get0 (v := .ref (ad 6)) F hK hI.1 rfl 5 (by decide) q27 rfl rfl dX0_move_36 ?_
      refine lv_iload hx hb dX0_move_39 (lv_at hl 0 rfl) ?_
      refine lv_aload_n hx hb dX0_move_41 rfl (lv_at hl 2 rfl) ?_
      refine sp_get0 (v := .ref (ad 1)) F hK hI.1 rfl 0 (by decide) q22 rfl rfl dX0_move_42 ?_
      refine lv_iload_n hx hb dX0_move_45 rfl (lv_at hl 1 rfl) ?_
      refine sp_iald (v := (sg_l (S (x + 5 * y)))) hx hb hK hI.1 1 rfl rfl (by decide) (by omega) (hS _ (by omega)).1 dX0_move_46 ?_
      refine lv_aload_n hx hb dX0_move_47 rfl (lv_at hl 2 rfl) ?_
      refine sp_get0 (v := .ref (ad 2)) F hK hI.1 rfl 1 (by decide) q23 rfl rfl dX0_move_48 ?_
      refine lv_iload_n hx hb dX0_move_51 rfl (lv_at hl 1 rfl) ?_
      refine sp_iald (v := (sg_h (S (x + 5 * y)))) hx hb hK hI.1 2 rfl rfl (by decide) (by omega) (hS _ (by omega)).2 dX0_move_52 ?_
      refine lv_aload_n hx hb dX0_move_53 rfl (lv_at hl 2 rfl) ?_
      refine sp_get0 (v := .ref (ad 5)) F hK hI.1 rfl 4 (by decide) q26 rfl rfl dX0_move_54 ?_
      refine lv_iload_n hx hb dX0_move_57 rfl (lv_at hl 1 rfl) ?_
      refine sp_iald (v := (nI (sg_R (x + 5 * y)))) hx hb hK hI.1 5 rfl rfl (by decide) (by omega) (hT _ (by omega)) dX0_move_58 ?_
      refine lv_iconst (v := nI 0) hx hb dX0_move_59 kc_0 ?_
      refine sp_callSi 4 F (met_turned l (S (x + 5 * y)) (sg_R (x + 5 * y)) 0 (sg_R64 _ (by omega)) (by decide)) (lw_S q93 q94 q12 q95) rfl rfl (by decide +kernel) hR hI rfl hl.1 rfl (Nat.le_of_ble_eq_true rfl) dX0_move_60 (fun r H locs hr1 hI => ?_)
      refine sp_topi (y := (sg_l (sg_rot (S (x + 5 * y)) (sg_R (x + 5 * y))))) (hr1.trans (if_pos rfl)) ?_
      refine sp_iast hx hb hK hI 6 rfl rfl (by decide) (by omega) dX0_move_63 (fun H locs tl1 etl1 hI => ?_)
      have hI : sp_in D A _ (spW ad d lo hi rl rh rt tl1 th rd ra su po pp li gi ta) H locs := hI
      refine lv_aload_n hx hb dX0_move_64 rfl (lv_at hl 2 rfl) ?_
      refine sp_get0 (v := .ref (ad 7)) F hK hI.1 rfl 6 (by decide) q28 rfl rfl dX0_move_65 ?_
      refine lv_iload hx hb dX0_move_68 (lv_at hl 0 rfl) ?_
      refine lv_aload_n hx hb dX0_move_70 rfl (lv_at hl 2 rfl) ?_
      refine sp_get0 (v := .ref (ad 1)) F hK hI.1 rfl 0 (by decide) q22 rfl rfl dX0_move_71 ?_
      refine lv_iload_n hx hb dX0_move_74 rfl (lv_at hl 1 rfl) ?_
      refine sp_iald (v := (sg_l (S (x + 5 * y)))) hx hb hK hI.1 1 rfl rfl (by decide) (by omega) (hS _ (by omega)).1 dX0_move_75 ?_
      refine lv_aload_n hx hb dX0_move_76 rfl (lv_at hl 2 rfl) ?_
      refine sp_get0 (v := .ref (ad 2)) F hK hI.1 rfl 1 (by decide) q23 rfl rfl dX0_move_77 ?_
      refine lv_iload_n hx hb dX0_move_80 rfl (lv_at hl 1 rfl) ?_
      refine sp_iald (v := (sg_h (S (x + 5 * y)))) hx hb hK hI.1 2 rfl rfl (by decide) (by omega) (hS _ (by omega)).2 dX0_move_81 ?_
      refine lv_aload_n hx hb dX0_move_82 rfl (lv_at hl 2 rfl) ?_
      refine sp_get0 (v := .ref (ad 5)) F hK hI.1 rfl 4 (by decide) q26 rfl rfl dX0_move_83 ?_
      refine lv_iload_n hx hb dX0_move_86 rfl (lv_at hl 1 rfl) ?_
      refine sp_iald (v := (nI (sg_R (x + 5 * y)))) hx hb hK hI.1 5 rfl rfl (by decide) (by omega) (hT _ (by omega)) dX0_move_87 ?_
      refine lv_iconst (v := nI 1) hx hb dX0_move_88 kc_1 ?_
      refine sp_callSi 4 F (met_turned l (S (x + 5 * y)) (sg_R (x + 5 * y)) 1 (sg_R64 _ (by omega)) (by decide)) (lw_S q93 q94 q12 q95) rfl rfl (by decide +kernel) hR hI rfl hl.1 rfl (Nat.le_of_ble_eq_true rfl) dX0_move_89 (fun r H locs hr2 hI => ?_)
      refine sp_topi (y := (sg_h (sg_rot (S (x + 5 * y)) (sg_R (x + 5 * y))))) (hr2.trans (if_neg (by decide))) ?_
      refine sp_iast hx hb hK hI 7 rfl rfl (by decide) (by omega) dX0_move_92 (fun H locs th1 eth1 hI => ?_)
      have hI : sp_in D A _ (spW ad d lo hi rl rh rt tl1 th1 rd ra su po pp li gi ta) H locs := hI
      refine lv_iinc (v := (nI (y + 1))) (lv' := [(2, .int (nI (y + 1))), (4, .int (nI (y + (5 * (((2 * x) + (3 * y)) % 5))))), (3, .int (nI (x + (5 * y)))), (0, .ref (ad 0)), (1, .int (nI x))]) hx hb dX0_move_93 hl (k := 4) rfl (ki_1 _) (by decide) rfl (fun ls hl => ?_)
      refine lv_goto (tgt := 9) hx hb dX0_move_96 (by decide) ?_
      exact ih (y + 1) tl1 th1 H locs ls (by omega) (by omega) (sg_mv1 hx5 c1 hinv etl1 eth1) hI (lv_sub hl [3, 4, 0] rfl)
set_option maxHeartbeats 4000000 in
set_option maxRecDepth 100000 in
/-- move: the columns -/
theorem mo_a {p : Program} {l : Launch} {e : Env} {R : Room} {s : State} {m : MethodId} {args : Array Value} {below : List Frame} {meth : Method} {c : Code} {Q : State → Prop} {D : va_G} {A : Nat → Prop} {H0 : Heap} {ad : Nat → Nat} {d : ClassId} {lo hi rl rh rt : Nat → Int32} {rd ra su po pp li gi ta : Int32} {S : Nat → BitVec 64} (F : CallFix p m c cX0_move 5 s args lw_all RX0) (hK : va_K D vwCl [(d, .int)] s) (hS : sg_LH lo hi S) (hT : ∀ k, k < 25 → rt k = nI (sg_R k)) (hR : 0 + 1 ≤ R.frames ∧ 8 + (7 + 11) + 0 ≤ R.locals)
    (kx : ∀ (tl th : Nat → Int32) (H : Heap) (locs : List Loc) (ls : Array Slot), sg_LH tl th (sg_M S) → sp_in D A H0 (spW ad d lo hi rl rh rt tl th rd ra su po pp li gi ta) H locs → lv_has ls 5 [(0, .ref (ad 0))] → W p l e R s m args below meth c H locs 0 0 Q (F0 m 105 ls [])) :
    ∀ (n x : Nat) (tl th : Nat → Int32) (H : Heap) (locs : List Loc) (ls : Array Slot), x ≤ 5 → 5 < x + n → sg_mv S x 0 tl th → sp_in D A H0 (spW ad d lo hi rl rh rt tl th rd ra su po pp li gi ta) H locs → lv_has ls 5 [(0, .ref (ad 0)), (1, .int (nI x))] → W p l e R s m args below meth c H locs 0 0 Q (F0 m 2 ls []) := by
  have hx := F.1
  have hb := F.2.1
  intro n
  induction n with
  | zero =>
    intro x tl th H locs ls h1 h2
    exact absurd h2 (by omega)
  | succ n ih =>
    intro x tl th H locs ls h1 h2 hinv hI hl
    refine lv_iload_n hx hb dX0_move_2 rfl (lv_at hl 1 rfl) ?_
    refine lv_iconst (v := nI 5) hx hb dX0_move_3 kc_5 ?_
    refine sp_ge (tgt := 105) hx hb (by omega) (by omega)  dX0_move_4 (by decide) (fun c1 => ?_) (fun c1 => ?_)
    · have hj : x = 5 := by omega
      subst hj
      exact kx tl th H locs ls (sg_mve hinv) hI (lv_sub hl [0] rfl)
    · refine lv_iconst (v := nI 0) hx hb dX0_move_7 kc_0 ?_
      refine lv_istore_n (lv' := [(2, .int (nI 0)), (0, .ref (ad 0)), (1, .int (nI x))]) hx hb dX0_move_8 rfl hl (by decide) rfl (fun ls hl => ?_)
      refine mo_b F hK hS hT hR c1 (fun tl th H locs ls hinv hI hl => ?_) 6 0 tl th H locs ls (by omega) (by omega) hinv hI (lv_sub hl [1, 2, 0] rfl)
      refine lv_iinc (v := (nI (x + 1))) (lv' := [(1, .int (nI (x + 1))), (0, .ref (ad 0))]) hx hb dX0_move_99 hl (k := 1) rfl (ki_1 _) (by decide) rfl (fun ls hl => ?_)
      refine lv_goto (tgt := 2) hx hb dX0_move_102 (by decide) ?_
      exact ih (x + 1) tl th H locs ls (by omega) (by omega) hinv hI (lv_sub hl [1, 0] rfl)
set_option maxHeartbeats 4000000 in
set_option maxRecDepth 100000 in
/-- move: rho and pi -/
theorem met_move (l : Launch) (D : va_G) (ad : Nat → Nat) (d : ClassId) (sz : Nat) (lo hi rl rh rt tl th : Nat → Int32) (rd ra su po pp li gi ta : Int32) (S : Nat → BitVec 64) (hS : sg_LH lo hi S) (hT : ∀ k, k < 25 → rt k = nI (sg_R k)) : Met l yX0_move (ws_ yX0_move cX0_move 5 none) { frames := 1, cells := 0, slots := 0, locals := 26 } (va_Pc [.ref (ad 0)] (sp_pre D [(d, .int)] sz (spW ad d lo hi rl rh rt tl th rd ra su po pp li gi ta))) (va_Qv (fun x : Nat → Nat → Int32 => sg_LH (x 0) (x 1) (sg_M S)) (sp_end D [(d, .int)] (va_A (spW ad d lo hi rl rh rt tl th rd ra su po pp li gi ta) sz) (fun x : Nat → Nat → Int32 => spW ad d lo hi rl rh rt (x 0) (x 1) rd ra su po pp li gi ta)) (va_A (spW ad d lo hi rl rh rt tl th rd ra su po pp li gi ta) sz)) 0 0 (va_A (spW ad d lo hi rl rh rt tl th rd ra su po pp li gi ta) sz) := by
  refine Met.ofW (cc := cX0_move) (maxL := 5) (ret := none) (by decide) rfl ?_
  intro p e s m args below meth c s₁ B hml hv
  obtain ⟨rfl, hsz, hP, hK, hD0⟩ := hv
  subst hsz
  have hts := atoms_spec (ws := ws_ yX0_move cX0_move 5 none) B.pre
  have F : CallFix p m c cX0_move 5 s ([.ref (ad 0)] : List Value).toArray lw_all RX0 := ⟨B.exec, B.bytes, hml, findClass_of_methodNamed B.named, fun w h => hts w (List.mem_cons_of_mem _ h)⟩
  have hx := F.1
  have hb := F.2.1
  have hr := B.returns
  have hlocks := B.notSynchronized
  have hD := hD0.self (sz := s.heap.size)
  generalize hAe : va_A (spW ad d lo hi rl rh rt tl th rd ra su po pp li gi ta) s.heap.size = A at hD ⊢
  have hA : ∀ q : Nat, s.heap.size ≤ q → A q := fun q h => by rw [← hAe]; exact Or.inr h
  have hI : sp_in D A s.heap (spW ad d lo hi rl rh rt tl th rd ra su po pp li gi ta) s.heap [] := ⟨hP, hD, va_S.rf⟩
  have hl := lv_entry ([.ref (ad 0)]) (n := 5) (Nat.le_of_ble_eq_true rfl)
  rw [lg_entry_eq]
  generalize (lg_sl ([.ref (ad 0)]) ++ List.replicate (5 - (lg_sl ([.ref (ad 0)])).length) Slot.unset).toArray = ls at hl ⊢
  have hl : lv_has ls 5 [(0, .ref (ad 0))] := hl
  have hR : 0 + 1 ≤ (headSpec (ws_ yX0_move cX0_move 5 none) { frames := 1, cells := 0, slots := 0, locals := 26 }).room.frames ∧ 8 + (7 + 11) + 0 ≤ (headSpec (ws_ yX0_move cX0_move 5 none) { frames := 1, cells := 0, slots := 0, locals := 26 }).room.locals := ⟨Nat.le_of_ble_eq_true rfl, Nat.le_of_ble_eq_true rfl⟩
  refine lv_iconst (v := nI 0) hx hb dX0_move_0 kc_0 ?_
  refine lv_istore_n (lv' := [(1, .int (nI 0)), (0, .ref (ad 0))]) hx hb dX0_move_1 rfl hl (by decide) rfl (fun ls hl => ?_)
  refine mo_a F hK hS hT hR (fun tl th H locs ls hT hI hl => ?_) 6 0 tl th _ _ ls (by omega) (by omega) (fun a b _ _ h => absurd h (by omega)) hI (lv_sub hl [1, 0] rfl)
  exact W.vret hx hb hr (fun t ht hW => ⟨⟨sg_f4 tl th tl th, rfl, hT, by rw [ht]; exact hI.1, va_K.moved hW.alike hK, hI.2.1⟩, hI.2.2.F ht⟩) hI.2.2.2.2 dX0_move_105
set_option maxHeartbeats 4000000 in
set_option maxRecDepth 100000 in
/-- mixRows: one row -/
theorem mr_b {p : Program} {l : Launch} {e : Env} {R : Room} {s : State} {m : MethodId} {args : Array Value} {below : List Frame} {meth : Method} {c : Code} {Q : State → Prop} {D : va_G} {A : Nat → Prop} {H0 : Heap} {ad : Nat → Nat} {d : ClassId} {rl rh rt tl th : Nat → Int32} {rd ra su po pp li gi ta : Int32} {S : Nat → BitVec 64} {j : Nat} (F : CallFix p m c cX0_mixRows 5 s args lw_all RX0) (hK : va_K D vwCl [(d, .int)] s) (hS : sg_LH tl th S) (hj5 : j < 5)
    (kx : ∀ (lo hi : Nat → Int32) (H : Heap) (locs : List Loc) (ls : Array Slot), (∀ i, i < 5 * j + 5 → lo i = sg_l (sg_X S i) ∧ hi i = sg_h (sg_X S i)) → sp_in D A H0 (spW ad d lo hi rl rh rt tl th rd ra su po pp li gi ta) H locs → lv_has ls 5 [(0, .ref (ad 0)), (1, .int (nI (5 * j)))] → W p l e R s m args below meth c H locs 0 0 Q (F0 m 104 ls [])) :
    ∀ (n x : Nat) (lo hi : Nat → Int32) (H : Heap) (locs : List Loc) (ls : Array Slot), x ≤ 5 → 5 < x + n → (∀ i, i < 5 * j + x → lo i = sg_l (sg_X S i) ∧ hi i = sg_h (sg_X S i)) → sp_in D A H0 (spW ad d lo hi rl rh rt tl th rd ra su po pp li gi ta) H locs → lv_has ls 5 [(0, .ref (ad 0)), (1, .int (nI (5 * j))), (2, .int (nI x))] → W p l e R s m args below meth c H locs 0 0 Q (F0 m 10 ls []) := by
  have hx := F.1
  have hb := F.2.1
  intro n
  induction n with
  | zero =>
    intro x lo hi H locs ls h1 h2
    exact absurd h2 (by omega)
  | succ n ih =>
    intro x lo hi H locs ls h1 h2 hinv hI hl
    refine lv_iload_n hx hb dX0_mixRows_10 rfl (lv_at hl 2 rfl) ?_
    refine lv_iconst (v := nI 5) hx hb dX0_mixRows_11 kc_5 ?_
    refine sp_ge (tgt := 104) hx hb (by omega) (by omega)  dX0_mixRows_12 (by decide) (fun c1 => ?_) (fun c1 => ?_)
    · have hj : x = 5 := by omega
      subst hj
      exact kx lo hi H locs ls hinv hI (lv_sub hl [0, 1] rfl)
    · refine lv_iload_n hx hb dX0_mixRows_15 rfl (lv_at hl 1 rfl) ?_
      refine lv_iload_n hx hb dX0_mixRows_16 rfl (lv_at hl 2 rfl) ?_
      refine lv_iconst (v := nI 1) hx hb dX0_mixRows_17 kc_1 ?_
      refine sp_iadd (z := x + 1) hx hb rfl dX0_mixRows_18 ?_
      refine lv_iconst (v := nI 5) hx hb dX0_mixRows_19 kc_5 ?_
      refine sp_irem (z := (x + 1) % 5) hx hb (by omega) (by decide) (by decide) rfl dX0_mixRows_20 ?_
      refine sp_iadd (z := (5 * j) + ((x + 1) % 5)) hx hb rfl dX0_mixRows_21 ?_
      refine lv_istore_n (lv' := [(3, .int (nI ((5 * j) + ((x + 1) % 5)))), (0, .ref (ad 0)), (1, .int (nI (5 * j))), (2, .int (nI x))]) hx hb dX0_mixRows_22 rfl hl (by decide) rfl (fun ls hl => ?_)
      refine lv_iload_n hx hb dX0_mixRows_23 rfl (lv_at hl 2 rfl) ?_
      refine lv_iload_n hx hb dX0_mixRows_24 rfl (lv_at hl 3 rfl) ?_
      refine lv_iconst (v := nI 2) hx hb dX0_mixRows_25 kc_2 ?_
      refine sp_iadd (z := x + 2) hx hb rfl dX0_mixRows_26 ?_
      refine lv_iconst (v := nI 5) hx hb dX0_mixRows_27 kc_5 ?_
      refine sp_irem (z := (x + 2) % 5) hx hb (by omega) (by decide) (by decide) rfl dX0_mixRows_28 ?_
      refine sp_iadd (z := (5 * j) + ((x + 2) % 5)) hx hb rfl dX0_mixRows_29 ?_
      refine lv_istore (lv' := [(4, .int (nI ((5 * j) + ((x + 2) % 5)))), (3, .int (nI ((5 * j) + ((x + 1) % 5)))), (0, .ref (ad 0)), (1, .int (nI (5 * j))), (2, .int (nI x))]) hx hb dX0_mixRows_30 hl (by decide) rfl (fun ls hl => ?_)
      refine lv_aload_n hx hb dX0_mixRows_32 rfl (lv_at hl 2 rfl) ?_
      refine sp_get0 (v := .ref (ad 1)) F hK hI.1 rfl 0 (by decide) q22 rfl rfl dX0_mixRows_33 ?_
      refine lv_iload_n hx hb dX0_mixRows_36 rfl (lv_at hl 4 rfl) ?_
      refine lv_iload_n hx hb dX0_mixRows_37 rfl (lv_at hl 3 rfl) ?_
      refine sp_iadd (z := 5 * j + x) hx hb (Nat.add_comm _ _) dX0_mixRows_38 ?_
      refine lv_aload_n hx hb dX0_mixRows_39 rfl (lv_at hl 2 rfl) ?_
      refine sp_get0 (v := .ref (ad 6)) F hK hI.1 rfl 5 (by decide) q27 rfl rfl dX0_mixRows_40 ?_
      refine lv_iload_n hx hb dX0_mixRows_43 rfl (lv_at hl 4 rfl) ?_
      refine lv_iload_n hx hb dX0_mixRows_44 rfl (lv_at hl 3 rfl) ?_
      refine sp_iadd (z := 5 * j + x) hx hb (Nat.add_comm _ _) dX0_mixRows_45 ?_
      refine sp_iald (v := (sg_l (S (5 * j + x)))) hx hb hK hI.1 6 rfl rfl (by decide) (by omega) (hS _ (by omega)).1 dX0_mixRows_46 ?_
      refine lv_aload_n hx hb dX0_mixRows_47 rfl (lv_at hl 2 rfl) ?_
      refine sp_get0 (v := .ref (ad 6)) F hK hI.1 rfl 5 (by decide) q27 rfl rfl dX0_mixRows_48 ?_
      refine lv_iload_n hx hb dX0_mixRows_51 rfl (lv_at hl 1 rfl) ?_
      refine sp_iald (v := (sg_l (S (5 * j + (x + 1) % 5)))) hx hb hK hI.1 6 rfl rfl (by decide) (by omega) (hS _ (by omega)).1 dX0_mixRows_52 ?_
      refine lv_iconst (v := -1) hx hb dX0_mixRows_53 kc_m1 ?_
      refine lv_ixor hx hb dX0_mixRows_54 ?_
      refine sp_topi (y := (sg_l (~~~ (S (5 * j + (x + 1) % 5))))) (sg_l_not _) ?_
      refine lv_aload_n hx hb dX0_mixRows_55 rfl (lv_at hl 2 rfl) ?_
      refine sp_get0 (v := .ref (ad 6)) F hK hI.1 rfl 5 (by decide) q27 rfl rfl dX0_mixRows_56 ?_
      refine lv_iload hx hb dX0_mixRows_59 (lv_at hl 0 rfl) ?_
      refine sp_iald (v := (sg_l (S (5 * j + (x + 2) % 5)))) hx hb hK hI.1 6 rfl rfl (by decide) (by omega) (hS _ (by omega)).1 dX0_mixRows_61 ?_
      refine lv_iand hx hb dX0_mixRows_62 ?_
      refine sp_topi (y := (sg_l (~~~ (S (5 * j + (x + 1) % 5)) &&& S (5 * j + (x + 2) % 5)))) (sg_l_and _ _) ?_
      refine lv_ixor hx hb dX0_mixRows_63 ?_
      refine sp_topi (y := (sg_l (sg_X S (5 * j + x)))) (by rw [sg_l_xor, sg_X1 S c1]) ?_
      refine sp_iast hx hb hK hI 1 rfl rfl (by decide) (by omega) dX0_mixRows_64 (fun H locs lo1 elo1 hI => ?_)
      have hI : sp_in D A _ (spW ad d lo1 hi rl rh rt tl th rd ra su po pp li gi ta) H locs := hI
      refine lv_aload_n hx hb dX0_mixRows_65 rfl (lv_at hl 2 rfl) ?_
      refine sp_get0 (v := .ref (ad 2)) F hK hI.1 rfl 1 (by decide) q23 rfl rfl dX0_mixRows_66 ?_
      refine lv_iload_n hx hb dX0_mixRows_69 rfl (lv_at hl 4 rfl) ?_
      refine lv_iload_n hx hb dX0_mixRows_70 rfl (lv_at hl 3 rfl) ?_
      refine sp_iadd (z := 5 * j + x) hx hb (Nat.add_comm _ _) dX0_mixRows_71 ?_
      refine lv_aload_n hx hb dX0_mixRows_72 rfl (lv_at hl 2 rfl) ?_
      refine sp_get0 (v := .ref (ad 7)) F hK hI.1 rfl 6 (by decide) q28 rfl rfl dX0_mixRows_73 ?_
      refine lv_iload_n hx hb dX0_mixRows_76 rfl (lv_at hl 4 rfl) ?_
      refine lv_iload_n hx hb dX0_mixRows_77 rfl (lv_at hl 3 rfl) ?_
      refine sp_iadd (z := 5 * j + x) hx hb (Nat.add_comm _ _) dX0_mixRows_78 ?_
      refine sp_iald (v := (sg_h (S (5 * j + x)))) hx hb hK hI.1 7 rfl rfl (by decide) (by omega) (hS _ (by omega)).2 dX0_mixRows_79 ?_
      refine lv_aload_n hx hb dX0_mixRows_80 rfl (lv_at hl 2 rfl) ?_
      refine sp_get0 (v := .ref (ad 7)) F hK hI.1 rfl 6 (by decide) q28 rfl rfl dX0_mixRows_81 ?_
      refine lv_iload_n hx hb dX0_mixRows_84 rfl (lv_at hl 1 rfl) ?_
      refine sp_iald (v := (sg_h (S (5 * j + (x + 1) % 5)))) hx hb hK hI.1 7 rfl rfl (by decide) (by omega) (hS _ (by omega)).2 dX0_mixRows_85 ?_
      refine lv_iconst (v := -1) hx hb dX0_mixRows_86 kc_m1 ?_
      refine lv_ixor hx hb dX0_mixRows_87 ?_
      refine sp_topi (y := (sg_h (~~~ (S (5 * j + (x + 1) % 5))))) (sg_h_not _) ?_
      refine lv_aload_n hx hb dX0_mixRows_88 rfl (lv_at hl 2 rfl) ?_
      refine sp_get0 (v := .ref (ad 7)) F hK hI.1 rfl 6 (by decide) q28 rfl rfl dX0_mixRows_89 ?_
      refine lv_iload hx hb dX0_mixRows_92 (lv_at hl 0 rfl) ?_
      refine sp_iald (v := (sg_h (S (5 * j + (x + 2) % 5)))) hx hb hK hI.1 7 rfl rfl (by decide) (by omega) (hS _ (by omega)).2 dX0_mixRows_94 ?_
      refine lv_iand hx hb dX0_mixRows_95 ?_
      refine sp_topi (y := (sg_h (~~~ (S (5 * j + (x + 1) % 5)) &&& S (5 * j + (x + 2) % 5)))) (sg_h_and _ _) ?_
      refine lv_ixor hx hb dX0_mixRows_96 ?_
      refine sp_topi (y := (sg_h (sg_X S (5 * j + x)))) (by rw [sg_h_xor, sg_X1 S c1]) ?_
      refine sp_iast hx hb hK hI 2 rfl rfl (by decide) (by omega) dX0_mixRows_97 (fun H locs hi1 ehi1 hI => ?_)
      have hI : sp_in D A _ (spW ad d lo1 hi1 rl rh rt tl th rd ra su po pp li gi ta) H locs := hI
      refine lv_iinc (v := (nI (x + 1))) (lv' := [(2, .int (nI (x + 1))), (4, .int (nI ((5 * j) + ((x + 2) % 5)))), (3, .int (nI ((5 * j) + ((x + 1) % 5)))), (0, .ref (ad 0)), (1, .int (nI (5 * j)))]) hx hb dX0_mixRows_98 hl (k := 4) rfl (ki_1 _) (by decide) rfl (fun ls hl => ?_)
      refine lv_goto (tgt := 10) hx hb dX0_mixRows_101 (by decide) ?_
      exact ih (x + 1) lo1 hi1 H locs ls (by omega) (by omega) (sg_step1 hinv elo1 ehi1) hI (lv_sub hl [3, 4, 0] rfl)
set_option maxHeartbeats 4000000 in
set_option maxRecDepth 100000 in
/-- mixRows: the rows -/
theorem mr_a {p : Program} {l : Launch} {e : Env} {R : Room} {s : State} {m : MethodId} {args : Array Value} {below : List Frame} {meth : Method} {c : Code} {Q : State → Prop} {D : va_G} {A : Nat → Prop} {H0 : Heap} {ad : Nat → Nat} {d : ClassId} {rl rh rt tl th : Nat → Int32} {rd ra su po pp li gi ta : Int32} {S : Nat → BitVec 64} (F : CallFix p m c cX0_mixRows 5 s args lw_all RX0) (hK : va_K D vwCl [(d, .int)] s) (hS : sg_LH tl th S)
    (kx : ∀ (lo hi : Nat → Int32) (H : Heap) (locs : List Loc) (ls : Array Slot), sg_LH lo hi (sg_X S) → sp_in D A H0 (spW ad d lo hi rl rh rt tl th rd ra su po pp li gi ta) H locs → lv_has ls 5 [(0, .ref (ad 0))] → W p l e R s m args below meth c H locs 0 0 Q (F0 m 110 ls [])) :
    ∀ (n j : Nat) (lo hi : Nat → Int32) (H : Heap) (locs : List Loc) (ls : Array Slot), j ≤ 5 → 5 < j + n → (∀ i, i < 5 * j → lo i = sg_l (sg_X S i) ∧ hi i = sg_h (sg_X S i)) → sp_in D A H0 (spW ad d lo hi rl rh rt tl th rd ra su po pp li gi ta) H locs → lv_has ls 5 [(0, .ref (ad 0)), (1, .int (nI (5 * j)))] → W p l e R s m args below meth c H locs 0 0 Q (F0 m 2 ls []) := by
  have hx := F.1
  have hb := F.2.1
  intro n
  induction n with
  | zero =>
    intro j lo hi H locs ls h1 h2
    exact absurd h2 (by omega)
  | succ n ih =>
    intro j lo hi H locs ls h1 h2 hinv hI hl
    refine lv_iload_n hx hb dX0_mixRows_2 rfl (lv_at hl 1 rfl) ?_
    refine lv_bipush (v := nI 25) hx hb dX0_mixRows_3 kb_25 ?_
    refine sp_ge (tgt := 110) hx hb (by omega) (by omega)  dX0_mixRows_5 (by decide) (fun c1 => ?_) (fun c1 => ?_)
    · have hj : j = 5 := by omega
      subst hj
      exact kx lo hi H locs ls hinv hI (lv_sub hl [0] rfl)
    · refine lv_iconst (v := nI 0) hx hb dX0_mixRows_8 kc_0 ?_
      refine lv_istore_n (lv' := [(2, .int (nI 0)), (0, .ref (ad 0)), (1, .int (nI (5 * j)))]) hx hb dX0_mixRows_9 rfl hl (by decide) rfl (fun ls hl => ?_)
      refine mr_b F hK hS (by omega) (fun lo hi H locs ls hinv hI hl => ?_) 6 0 lo hi H locs ls (by omega) (by omega) hinv hI (lv_sub hl [1, 2, 0] rfl)
      have hk5 : nI (5 * j) + Int32.ofInt 5 = nI (5 * (j + 1)) := (ki_5 _).trans (congrArg nI (by omega))
      refine lv_iinc (v := (nI (5 * (j + 1)))) (lv' := [(1, .int (nI (5 * (j + 1)))), (0, .ref (ad 0))]) hx hb dX0_mixRows_104 hl (k := 1) rfl hk5 (by decide) rfl (fun ls hl => ?_)
      refine lv_goto (tgt := 2) hx hb dX0_mixRows_107 (by decide) ?_
      exact ih (j + 1) lo hi H locs ls (by omega) (by omega) (fun i h => hinv i (by omega)) hI (lv_sub hl [1, 0] rfl)
set_option maxHeartbeats 4000000 in
set_option maxRecDepth 100000 in
/-- mixRows: chi -/
theorem met_mixRows (l : Launch) (D : va_G) (ad : Nat → Nat) (d : ClassId) (sz : Nat) (lo hi rl rh rt tl th : Nat → Int32) (rd ra su po pp li gi ta : Int32) (S : Nat → BitVec 64) (hS : sg_LH tl th S) : Met l yX0_mixRows (ws_ yX0_mixRows cX0_mixRows 5 none) { frames := 0, cells := 0, slots := 0, locals := 0 } (va_Pc [.ref (ad 0)] (sp_pre D [(d, .int)] sz (spW ad d lo hi rl rh rt tl th rd ra su po pp li gi ta))) (va_Qv (fun x : Nat → Nat → Int32 => sg_LH (x 0) (x 1) (sg_X S)) (sp_end D [(d, .int)] (va_A (spW ad d lo hi rl rh rt tl th rd ra su po pp li gi ta) sz) (fun x : Nat → Nat → Int32 => spW ad d (x 0) (x 1) rl rh rt tl th rd ra su po pp li gi ta)) (va_A (spW ad d lo hi rl rh rt tl th rd ra su po pp li gi ta) sz)) 0 0 (va_A (spW ad d lo hi rl rh rt tl th rd ra su po pp li gi ta) sz) := by
  refine Met.ofW (cc := cX0_mixRows) (maxL := 5) (ret := none) (by decide) rfl ?_
  intro p e s m args below meth c s₁ B hml hv
  obtain ⟨rfl, hsz, hP, hK, hD0⟩ := hv
  subst hsz
  have hts := atoms_spec (ws := ws_ yX0_mixRows cX0_mixRows 5 none) B.pre
  have F : CallFix p m c cX0_mixRows 5 s ([.ref (ad 0)] : List Value).toArray lw_all RX0 := ⟨B.exec, B.bytes, hml, findClass_of_methodNamed B.named, fun w h => hts w (List.mem_cons_of_mem _ h)⟩
  have hx := F.1
  have hb := F.2.1
  have hr := B.returns
  have hlocks := B.notSynchronized
  have hD := hD0.self (sz := s.heap.size)
  generalize hAe : va_A (spW ad d lo hi rl rh rt tl th rd ra su po pp li gi ta) s.heap.size = A at hD ⊢
  have hA : ∀ q : Nat, s.heap.size ≤ q → A q := fun q h => by rw [← hAe]; exact Or.inr h
  have hI : sp_in D A s.heap (spW ad d lo hi rl rh rt tl th rd ra su po pp li gi ta) s.heap [] := ⟨hP, hD, va_S.rf⟩
  have hl := lv_entry ([.ref (ad 0)]) (n := 5) (Nat.le_of_ble_eq_true rfl)
  rw [lg_entry_eq]
  generalize (lg_sl ([.ref (ad 0)]) ++ List.replicate (5 - (lg_sl ([.ref (ad 0)])).length) Slot.unset).toArray = ls at hl ⊢
  have hl : lv_has ls 5 [(0, .ref (ad 0))] := hl
  refine lv_iconst (v := nI 0) hx hb dX0_mixRows_0 kc_0 ?_
  refine lv_istore_n (lv' := [(1, .int (nI 0)), (0, .ref (ad 0))]) hx hb dX0_mixRows_1 rfl hl (by decide) rfl (fun ls hl => ?_)
  refine mr_a F hK hS (fun lo hi H locs ls hT hI hl => ?_) 6 0 lo hi _ _ ls (by omega) (by omega) (fun i h => absurd h (by omega)) hI (lv_sub hl [1, 0] rfl)
  exact W.vret hx hb hr (fun t ht hW => ⟨⟨sg_f4 lo hi lo hi, rfl, hT, by rw [ht]; exact hI.1, va_K.moved hW.alike hK, hI.2.1⟩, hI.2.2.F ht⟩) hI.2.2.2.2 dX0_mixRows_110
end
section
/-! permute, put, at; printed by gen/m_perm.py -/
set_option maxHeartbeats 4000000 in
set_option maxRecDepth 100000 in
/-- permute: the rounds -/
theorem pe_a {p : Program} {l : Launch} {e : Env} {R : Room} {s : State} {m : MethodId} {args : Array Value} {below : List Frame} {meth : Method} {c : Code} {Q : State → Prop} {D : va_G} {A : Nat → Prop} {H0 : Heap} {ad : Nat → Nat} {d : ClassId} {rl rh rt : Nat → Int32} {rd ra su po pp li gi ta : Int32} {S : Nat → BitVec 64} (F : CallFix p m c cX0_permute 2 s args lw_all RX0) (hK : va_K D vwCl [(d, .int)] s) (hA : ∀ q, H0.size ≤ q → A q) (hT : sg_TB rl rh rt) (hR : 1 + 1 ≤ R.frames ∧ 8 + (5 + 11) + 26 ≤ R.locals)
    (kx : ∀ (lo hi tl th : Nat → Int32) (H : Heap) (locs : List Loc) (ls : Array Slot), sg_LH lo hi (sg_P S) → sp_in D A H0 (spW ad d lo hi rl rh rt tl th rd ra su po pp li gi ta) H locs → lv_has ls 2 [(0, .ref (ad 0))] → W p l e R s m args below meth c H locs 0 0 Q (F0 m 56 ls [])) :
    ∀ (n i : Nat) (lo hi tl th : Nat → Int32) (H : Heap) (locs : List Loc) (ls : Array Slot), i ≤ 24 → 24 < i + n → sg_LH lo hi (sg_pr S i) → sp_in D A H0 (spW ad d lo hi rl rh rt tl th rd ra su po pp li gi ta) H locs → lv_has ls 2 [(0, .ref (ad 0)), (1, .int (nI i))] → W p l e R s m args below meth c H locs 0 0 Q (F0 m 2 ls []) := by
  have hx := F.1
  have hb := F.2.1
  intro n
  induction n with
  | zero =>
    intro i lo hi tl th H locs ls h1 h2
    exact absurd h2 (by omega)
  | succ n ih =>
    intro i lo hi tl th H locs ls h1 h2 hinv hI hl
    refine lv_iload_n hx hb dX0_permute_2 rfl (lv_at hl 1 rfl) ?_
    refine lv_bipush (v := nI 24) hx hb dX0_permute_3 kb_24 ?_
    refine sp_ge (tgt := 56) hx hb (by omega) (by omega)  dX0_permute_5 (by decide) (fun c1 => ?_) (fun c1 => ?_)
    · have hj : i = 24 := by omega
      subst hj
      exact kx lo hi tl th H locs ls hinv hI (lv_sub hl [0] rfl)
    · have hR4 : 1 + 1 ≤ R.frames ∧ 8 + (4 + 11) + 26 ≤ R.locals := ⟨hR.1, by have := hR.2; omega⟩
      have hR0 : 0 + 1 ≤ R.frames ∧ 8 + (5 + 11) + 0 ≤ R.locals := ⟨by have := hR.1; omega, by have := hR.2; omega⟩
      refine lv_aload_n hx hb dX0_permute_8 rfl (lv_at hl 0 rfl) ?_
      refine sp_callV (ci := 0) 0 F (met_mixColumns l D ad d _ lo hi rl rh rt tl th rd ra su po pp li gi ta (sg_pr S i) hinv) (lw_V q89 q91 qs2 q12 q92) rfl rfl (by decide +kernel) hR4 hK hI hA rfl rfl rfl hl.1 rfl (Nat.le_of_ble_eq_true rfl) dX0_permute_9 (fun x1 H locs hx1 hI => ?_)
      have hI : sp_in D A _ (spW ad d (x1 0) (x1 1) rl rh rt (x1 2) (x1 3) rd ra su po pp li gi ta) H locs := hI
      refine lv_aload_n hx hb dX0_permute_12 rfl (lv_at hl 0 rfl) ?_
      refine sp_callV (ci := 0) 0 F (met_move l D ad d _ (x1 0) (x1 1) rl rh rt (x1 2) (x1 3) rd ra su po pp li gi ta (sg_T (sg_pr S i)) hx1 hT.2) (lw_V q96 q98 qs3 q12 q99) rfl rfl (by decide +kernel) hR hK hI hA rfl rfl rfl hl.1 rfl (Nat.le_of_ble_eq_true rfl) dX0_permute_13 (fun x2 H locs hx2 hI => ?_)
      have hI : sp_in D A _ (spW ad d (x1 0) (x1 1) rl rh rt (x2 0) (x2 1) rd ra su po pp li gi ta) H locs := hI
      refine lv_aload_n hx hb dX0_permute_16 rfl (lv_at hl 0 rfl) ?_
      refine sp_callV (ci := 0) 0 F (met_mixRows l D ad d _ (x1 0) (x1 1) rl rh rt (x2 0) (x2 1) rd ra su po pp li gi ta (sg_M (sg_T (sg_pr S i))) hx2) (lw_V q100 q102 qs4 q12 q103) rfl rfl (by decide +kernel) hR0 hK hI hA rfl rfl rfl hl.1 rfl (Nat.le_of_ble_eq_true rfl) dX0_permute_17 (fun x3 H locs hx3 hI => ?_)
      have hI : sp_in D A _ (spW ad d (x3 0) (x3 1) rl rh rt (x2 0) (x2 1) rd ra su po pp li gi ta) H locs := hI
      refine lv_aload_n hx hb dX0_permute_20 rfl (lv_at hl 0 rfl) ?_
      refine sp_get0 (v := .ref (ad 1)) F hK hI.1 rfl 0 (by decide) q22 rfl rfl dX0_permute_21 ?_
      refine lv_iconst (v := nI 0) hx hb dX0_permute_24 kc_0 ?_
      refine lv_dup2_11 hx hb dX0_permute_25 rfl rfl ?_
      refine sp_iald (v := (sg_l (sg_X (sg_M (sg_T (sg_pr S i))) 0))) hx hb hK hI.1 1 rfl rfl (by decide) (by omega) (hx3 0 (by decide)).1 dX0_permute_26 ?_
      refine lv_aload_n hx hb dX0_permute_27 rfl (lv_at hl 0 rfl) ?_
      refine sp_get0 (v := .ref (ad 3)) F hK hI.1 rfl 2 (by decide) q24 rfl rfl dX0_permute_28 ?_
      refine lv_iload_n hx hb dX0_permute_31 rfl (lv_at hl 1 rfl) ?_
      refine sp_iald (v := (sg_l (sg_RC i))) hx hb hK hI.1 3 rfl rfl (by decide) (by omega) (hT.1 i c1).1 dX0_permute_32 ?_
      refine lv_ixor hx hb dX0_permute_33 ?_
      refine sp_iast hx hb hK hI 1 rfl rfl (by decide) (by omega) dX0_permute_34 (fun H locs lo1 elo1 hI => ?_)
      have hI : sp_in D A _ (spW ad d lo1 (x3 1) rl rh rt (x2 0) (x2 1) rd ra su po pp li gi ta) H locs := hI
      refine lv_aload_n hx hb dX0_permute_35 rfl (lv_at hl 0 rfl) ?_
      refine sp_get0 (v := .ref (ad 2)) F hK hI.1 rfl 1 (by decide) q23 rfl rfl dX0_permute_36 ?_
      refine lv_iconst (v := nI 0) hx hb dX0_permute_39 kc_0 ?_
      refine lv_dup2_11 hx hb dX0_permute_40 rfl rfl ?_
      refine sp_iald (v := (sg_h (sg_X (sg_M (sg_T (sg_pr S i))) 0))) hx hb hK hI.1 2 rfl rfl (by decide) (by omega) (hx3 0 (by decide)).2 dX0_permute_41 ?_
      refine lv_aload_n hx hb dX0_permute_42 rfl (lv_at hl 0 rfl) ?_
      refine sp_get0 (v := .ref (ad 4)) F hK hI.1 rfl 3 (by decide) q25 rfl rfl dX0_permute_43 ?_
      refine lv_iload_n hx hb dX0_permute_46 rfl (lv_at hl 1 rfl) ?_
      refine sp_iald (v := (sg_h (sg_RC i))) hx hb hK hI.1 4 rfl rfl (by decide) (by omega) (hT.1 i c1).2 dX0_permute_47 ?_
      refine lv_ixor hx hb dX0_permute_48 ?_
      refine sp_iast hx hb hK hI 2 rfl rfl (by decide) (by omega) dX0_permute_49 (fun H locs hi1 ehi1 hI => ?_)
      have hI : sp_in D A _ (spW ad d lo1 hi1 rl rh rt (x2 0) (x2 1) rd ra su po pp li gi ta) H locs := hI
      refine lv_iinc (v := (nI (i + 1))) (lv' := [(1, .int (nI (i + 1))), (0, .ref (ad 0))]) hx hb dX0_permute_50 hl (k := 1) rfl (ki_1 _) (by decide) rfl (fun ls hl => ?_)
      refine lv_goto (tgt := 2) hx hb dX0_permute_53 (by decide) ?_
      exact ih (i + 1) lo1 hi1 (x2 0) (x2 1) H locs ls (by omega) (by omega) (sg_rds hx3 elo1 ehi1) hI (lv_sub hl [1, 0] rfl)
set_option maxHeartbeats 4000000 in
set_option maxRecDepth 100000 in
/-- permute: 24 rounds -/
theorem met_permute (l : Launch) (D : va_G) (ad : Nat → Nat) (d : ClassId) (sz : Nat) (lo hi rl rh rt tl th : Nat → Int32) (rd ra su po pp li gi ta : Int32) (S : Nat → BitVec 64) (hS : sg_LH lo hi S) (hT : sg_TB rl rh rt) : Met l yX0_permute (ws_ yX0_permute cX0_permute 2 none) { frames := 2, cells := 0, slots := 0, locals := 50 } (va_Pc [.ref (ad 0)] (sp_pre D [(d, .int)] sz (spW ad d lo hi rl rh rt tl th rd ra su po pp li gi ta))) (va_Qv (fun x : Nat → Nat → Int32 => sg_LH (x 0) (x 1) (sg_P S)) (sp_end D [(d, .int)] (va_A (spW ad d lo hi rl rh rt tl th rd ra su po pp li gi ta) sz) (fun x : Nat → Nat → Int32 => spW ad d (x 0) (x 1) rl rh rt (x 2) (x 3) rd ra su po pp li gi ta)) (va_A (spW ad d lo hi rl rh rt tl th rd ra su po pp li gi ta) sz)) 0 0 (va_A (spW ad d lo hi rl rh rt tl th rd ra su po pp li gi ta) sz) := by
  refine Met.ofW (cc := cX0_permute) (maxL := 2) (ret := none) (by decide) rfl ?_
  intro p e s m args below meth c s₁ B hml hv
  obtain ⟨rfl, hsz, hP, hK, hD0⟩ := hv
  subst hsz
  have hts := atoms_spec (ws := ws_ yX0_permute cX0_permute 2 none) B.pre
  have F : CallFix p m c cX0_permute 2 s ([.ref (ad 0)] : List Value).toArray lw_all RX0 := ⟨B.exec, B.bytes, hml, findClass_of_methodNamed B.named, fun w h => hts w (List.mem_cons_of_mem _ h)⟩
  have hx := F.1
  have hb := F.2.1
  have hr := B.returns
  have hlocks := B.notSynchronized
  have hD := hD0.self (sz := s.heap.size)
  generalize hAe : va_A (spW ad d lo hi rl rh rt tl th rd ra su po pp li gi ta) s.heap.size = A at hD ⊢
  have hA : ∀ q : Nat, s.heap.size ≤ q → A q := fun q h => by rw [← hAe]; exact Or.inr h
  have hI : sp_in D A s.heap (spW ad d lo hi rl rh rt tl th rd ra su po pp li gi ta) s.heap [] := ⟨hP, hD, va_S.rf⟩
  have hl := lv_entry ([.ref (ad 0)]) (n := 2) (Nat.le_of_ble_eq_true rfl)
  rw [lg_entry_eq]
  generalize (lg_sl ([.ref (ad 0)]) ++ List.replicate (2 - (lg_sl ([.ref (ad 0)])).length) Slot.unset).toArray = ls at hl ⊢
  have hl : lv_has ls 2 [(0, .ref (ad 0))] := hl
  have hR : 1 + 1 ≤ (headSpec (ws_ yX0_permute cX0_permute 2 none) { frames := 2, cells := 0, slots := 0, locals := 50 }).room.frames ∧ 8 + (5 + 11) + 26 ≤ (headSpec (ws_ yX0_permute cX0_permute 2 none) { frames := 2, cells := 0, slots := 0, locals := 50 }).room.locals := ⟨Nat.le_of_ble_eq_true rfl, Nat.le_of_ble_eq_true rfl⟩
  refine lv_iconst (v := nI 0) hx hb dX0_permute_0 kc_0 ?_
  refine lv_istore_n (lv' := [(1, .int (nI 0)), (0, .ref (ad 0))]) hx hb dX0_permute_1 rfl hl (by decide) rfl (fun ls hl => ?_)
  refine pe_a F hK hA hT hR (fun lo hi tl th H locs ls hT hI hl => ?_) 25 0 lo hi tl th _ _ ls (by omega) (by omega) hS hI (lv_sub hl [1, 0] rfl)
  exact W.vret hx hb hr (fun t ht hW => ⟨⟨sg_f4 lo hi tl th, rfl, hT, by rw [ht]; exact hI.1, va_K.moved hW.alike hK, hI.2.1⟩, hI.2.2.F ht⟩) hI.2.2.2.2 dX0_permute_56
set_option maxHeartbeats 4000000 in
set_option maxRecDepth 100000 in
/-- put: a byte joins the lanes -/
theorem met_put (l : Launch) (D : va_G) (ad : Nat → Nat) (d : ClassId) (sz : Nat) (lo hi rl rh rt tl th : Nat → Int32) (rd ra su po pp li gi ta : Int32) (S : Nat → BitVec 64) (P b : Nat) (hP : P < 200) (hb8 : b < 256) (hS : sg_LH lo hi S) : Met l yX0_put (ws_ yX0_put cX0_put 4 none) { frames := 0, cells := 0, slots := 0, locals := 0 } (va_Pc [.ref (ad 0), .int (nI P), .int (nI b)] (sp_pre D [(d, .int)] sz (spW ad d lo hi rl rh rt tl th rd ra su po pp li gi ta))) (va_Qv (fun x : Nat → Nat → Int32 => sg_LH (x 0) (x 1) (sg_put S P b)) (sp_end D [(d, .int)] (va_A (spW ad d lo hi rl rh rt tl th rd ra su po pp li gi ta) sz) (fun x : Nat → Nat → Int32 => spW ad d (x 0) (x 1) rl rh rt tl th rd ra su po pp li gi ta)) (va_A (spW ad d lo hi rl rh rt tl th rd ra su po pp li gi ta) sz)) 0 0 (va_A (spW ad d lo hi rl rh rt tl th rd ra su po pp li gi ta) sz) := by
  refine Met.ofW (cc := cX0_put) (maxL := 4) (ret := none) (by decide) rfl ?_
  intro p e s m args below meth c s₁ B hml hv
  obtain ⟨rfl, hsz, hPw, hK, hD0⟩ := hv
  subst hsz
  have hts := atoms_spec (ws := ws_ yX0_put cX0_put 4 none) B.pre
  have F : CallFix p m c cX0_put 4 s ([.ref (ad 0), .int (nI P), .int (nI b)] : List Value).toArray lw_all RX0 := ⟨B.exec, B.bytes, hml, findClass_of_methodNamed B.named, fun w h => hts w (List.mem_cons_of_mem _ h)⟩
  have hx := F.1
  have hb := F.2.1
  have hr := B.returns
  have hlocks := B.notSynchronized
  have hD := hD0.self (sz := s.heap.size)
  generalize hAe : va_A (spW ad d lo hi rl rh rt tl th rd ra su po pp li gi ta) s.heap.size = A at hD ⊢
  have hA : ∀ q : Nat, s.heap.size ≤ q → A q := fun q h => by rw [← hAe]; exact Or.inr h
  have hI : sp_in D A s.heap (spW ad d lo hi rl rh rt tl th rd ra su po pp li gi ta) s.heap [] := ⟨hPw, hD, va_S.rf⟩
  have hl := lv_entry ([.ref (ad 0), .int (nI P), .int (nI b)]) (n := 4) (Nat.le_of_ble_eq_true rfl)
  rw [lg_entry_eq]
  generalize (lg_sl ([.ref (ad 0), .int (nI P), .int (nI b)]) ++ List.replicate (4 - (lg_sl ([.ref (ad 0), .int (nI P), .int (nI b)])).length) Slot.unset).toArray = ls at hl ⊢
  have hl : lv_has ls 4 [(0, .ref (ad 0)), (1, .int (nI P)), (2, .int (nI b))] := hl
  refine lv_iload_n hx hb dX0_put_0 rfl (lv_at hl 1 rfl) ?_
  refine lv_bipush (v := nI 8) hx hb dX0_put_1 kb_8 ?_
  refine sp_idiv (z := P / 8) hx hb (by omega) (by decide) (by decide) rfl dX0_put_3 ?_
  refine lv_istore_n (lv' := [(3, .int (nI (P / 8))), (0, .ref (ad 0)), (1, .int (nI P)), (2, .int (nI b))]) hx hb dX0_put_4 rfl hl (by decide) rfl (fun ls hl => ?_)
  refine lv_iload_n hx hb dX0_put_5 rfl (lv_at hl 2 rfl) ?_
  refine lv_bipush (v := nI 8) hx hb dX0_put_6 kb_8 ?_
  refine sp_irem (z := P % 8) hx hb (by omega) (by decide) (by decide) rfl dX0_put_8 ?_
  refine lv_iconst (v := nI 4) hx hb dX0_put_9 kc_4 ?_
  refine sp_ge (tgt := 33) hx hb (by omega) (by omega)  dX0_put_10 (by decide) (fun c1 => ?_) (fun c1 => ?_)
  · refine lv_aload_n hx hb dX0_put_33 rfl (lv_at hl 1 rfl) ?_
    refine sp_get0 (v := .ref (ad 2)) F hK hI.1 rfl 1 (by decide) q23 rfl rfl dX0_put_34 ?_
    refine lv_iload_n hx hb dX0_put_37 rfl (lv_at hl 0 rfl) ?_
    refine lv_dup2_11 hx hb dX0_put_38 rfl rfl ?_
    refine sp_iald (v := (sg_h (S (P / 8)))) hx hb hK hI.1 2 rfl rfl (by decide) (by omega) (hS _ (by omega)).2 dX0_put_39 ?_
    refine lv_iload_n hx hb dX0_put_40 rfl (lv_at hl 3 rfl) ?_
    refine lv_bipush (v := nI 8) hx hb dX0_put_41 kb_8 ?_
    refine lv_iload_n hx hb dX0_put_43 rfl (lv_at hl 2 rfl) ?_
    refine lv_iconst (v := nI 4) hx hb dX0_put_44 kc_4 ?_
    refine sp_irem (z := P % 4) hx hb (by omega) (by decide) (by decide) rfl dX0_put_45 ?_
    refine sp_imul (z := 8 * (P % 4)) hx hb rfl dX0_put_46 ?_
    refine lv_ishl hx hb dX0_put_47 ?_
    refine lv_ixor hx hb dX0_put_48 ?_
    refine sp_topi (y := (sg_h (S (P / 8) ^^^ (BitVec.ofNat 64 b <<< (8 * (P % 8)))))) (sg_put_h _ (by omega)) ?_
    refine sp_iast hx hb hK hI 2 rfl rfl (by decide) (by omega) dX0_put_49 (fun H locs hi1 ehi1 hI => ?_)
    have hI : sp_in D A _ (spW ad d lo hi1 rl rh rt tl th rd ra su po pp li gi ta) H locs := hI
    exact W.vret hx hb hr (fun t ht hW => ⟨⟨sg_f4 lo hi1 lo lo, rfl, sg_put_s2 hS (by omega) ehi1, by rw [ht]; exact hI.1, va_K.moved hW.alike hK, hI.2.1⟩, hI.2.2.F ht⟩) hI.2.2.2.2 dX0_put_50
  · refine lv_aload_n hx hb dX0_put_13 rfl (lv_at hl 1 rfl) ?_
    refine sp_get0 (v := .ref (ad 1)) F hK hI.1 rfl 0 (by decide) q22 rfl rfl dX0_put_14 ?_
    refine lv_iload_n hx hb dX0_put_17 rfl (lv_at hl 0 rfl) ?_
    refine lv_dup2_11 hx hb dX0_put_18 rfl rfl ?_
    refine sp_iald (v := (sg_l (S (P / 8)))) hx hb hK hI.1 1 rfl rfl (by decide) (by omega) (hS _ (by omega)).1 dX0_put_19 ?_
    refine lv_iload_n hx hb dX0_put_20 rfl (lv_at hl 3 rfl) ?_
    refine lv_bipush (v := nI 8) hx hb dX0_put_21 kb_8 ?_
    refine lv_iload_n hx hb dX0_put_23 rfl (lv_at hl 2 rfl) ?_
    refine lv_iconst (v := nI 4) hx hb dX0_put_24 kc_4 ?_
    refine sp_irem (z := P % 4) hx hb (by omega) (by decide) (by decide) rfl dX0_put_25 ?_
    refine sp_imul (z := 8 * (P % 4)) hx hb rfl dX0_put_26 ?_
    refine lv_ishl hx hb dX0_put_27 ?_
    refine lv_ixor hx hb dX0_put_28 ?_
    refine sp_topi (y := (sg_l (S (P / 8) ^^^ (BitVec.ofNat 64 b <<< (8 * (P % 8)))))) (sg_put_l _ c1) ?_
    refine sp_iast hx hb hK hI 1 rfl rfl (by decide) (by omega) dX0_put_29 (fun H locs lo1 elo1 hI => ?_)
    have hI : sp_in D A _ (spW ad d lo1 hi rl rh rt tl th rd ra su po pp li gi ta) H locs := hI
    refine lv_goto (tgt := 50) hx hb dX0_put_30 (by decide) ?_
    exact W.vret hx hb hr (fun t ht hW => ⟨⟨sg_f4 lo1 hi lo lo, rfl, sg_put_s1 hS hb8 c1 elo1, by rw [ht]; exact hI.1, va_K.moved hW.alike hK, hI.2.1⟩, hI.2.2.F ht⟩) hI.2.2.2.2 dX0_put_50
set_option maxHeartbeats 4000000 in
set_option maxRecDepth 100000 in
/-- at: a byte is read -/
theorem met_at (l : Launch) (D : va_G) (ad : Nat → Nat) (d : ClassId) (sz : Nat) (lo hi rl rh rt tl th : Nat → Int32) (rd ra su po pp li gi ta : Int32) (S : Nat → BitVec 64) (P : Nat) (hP : P < 200) (hS : sg_LH lo hi S) : Met l yX0_at (ws_ yX0_at cX0_at 2 (some .int)) { frames := 0, cells := 0, slots := 0, locals := 0 } (va_Pc [.ref (ad 0), .int (nI P)] (sp_pre D [(d, .int)] sz (spW ad d lo hi rl rh rt tl th rd ra su po pp li gi ta))) (va_Qi (fun (r : Int32) (_ : Unit) => r = nI (sg_at S P)) (sp_end D [(d, .int)] (va_A (spW ad d lo hi rl rh rt tl th rd ra su po pp li gi ta) sz) (fun _ : Unit => spW ad d lo hi rl rh rt tl th rd ra su po pp li gi ta)) (va_A (spW ad d lo hi rl rh rt tl th rd ra su po pp li gi ta) sz)) 0 0 (va_A (spW ad d lo hi rl rh rt tl th rd ra su po pp li gi ta) sz) := by
  refine Met.ofW (cc := cX0_at) (maxL := 2) (ret := (some .int)) (by decide) rfl ?_
  intro p e s m args below meth c s₁ B hml hv
  obtain ⟨rfl, hsz, hPw, hK, hD0⟩ := hv
  subst hsz
  have hts := atoms_spec (ws := ws_ yX0_at cX0_at 2 (some .int)) B.pre
  have F : CallFix p m c cX0_at 2 s ([.ref (ad 0), .int (nI P)] : List Value).toArray lw_all RX0 := ⟨B.exec, B.bytes, hml, findClass_of_methodNamed B.named, fun w h => hts w (List.mem_cons_of_mem _ h)⟩
  have hx := F.1
  have hb := F.2.1
  have hr := B.returns
  have hlocks := B.notSynchronized
  have hD := hD0.self (sz := s.heap.size)
  generalize hAe : va_A (spW ad d lo hi rl rh rt tl th rd ra su po pp li gi ta) s.heap.size = A at hD ⊢
  have hA : ∀ q : Nat, s.heap.size ≤ q → A q := fun q h => by rw [← hAe]; exact Or.inr h
  have hI : sp_in D A s.heap (spW ad d lo hi rl rh rt tl th rd ra su po pp li gi ta) s.heap [] := ⟨hPw, hD, va_S.rf⟩
  have hl := lv_entry ([.ref (ad 0), .int (nI P)]) (n := 2) (Nat.le_of_ble_eq_true rfl)
  rw [lg_entry_eq]
  generalize (lg_sl ([.ref (ad 0), .int (nI P)]) ++ List.replicate (2 - (lg_sl ([.ref (ad 0), .int (nI P)])).length) Slot.unset).toArray = ls at hl ⊢
  have hl : lv_has ls 2 [(0, .ref (ad 0)), (1, .int (nI P))] := hl
  refine lv_iload_n hx hb dX0_at_0 rfl (lv_at hl 1 rfl) ?_
  refine lv_bipush (v := nI 8) hx hb dX0_at_1 kb_8 ?_
  refine sp_irem (z := P % 8) hx hb (by omega) (by decide) (by decide) rfl dX0_at_3 ?_
  refine lv_iconst (v := nI 4) hx hb dX0_at_4 kc_4 ?_
  refine sp_ge (tgt := 20) hx hb (by omega) (by omega)  dX0_at_5 (by decide) (fun c1 => ?_) (fun c1 => ?_)
  · refine lv_aload_n hx hb dX0_at_20 rfl (lv_at hl 0 rfl) ?_
    refine sp_get0 (v := .ref (ad 2)) F hK hI.1 rfl 1 (by decide) q23 rfl rfl dX0_at_21 ?_
    refine lv_iload_n hx hb dX0_at_24 rfl (lv_at hl 1 rfl) ?_
    refine lv_bipush (v := nI 8) hx hb dX0_at_25 kb_8 ?_
    refine sp_idiv (z := P / 8) hx hb (by omega) (by decide) (by decide) rfl dX0_at_27 ?_
    refine sp_iald (v := (sg_h (S (P / 8)))) hx hb hK hI.1 2 rfl rfl (by decide) (by omega) (hS _ (by omega)).2 dX0_at_28 ?_
    refine lv_bipush (v := nI 8) hx hb dX0_at_29 kb_8 ?_
    refine lv_iload_n hx hb dX0_at_31 rfl (lv_at hl 1 rfl) ?_
    refine lv_iconst (v := nI 4) hx hb dX0_at_32 kc_4 ?_
    refine sp_irem (z := P % 4) hx hb (by omega) (by decide) (by decide) rfl dX0_at_33 ?_
    refine sp_imul (z := 8 * (P % 4)) hx hb rfl dX0_at_34 ?_
    refine lv_iushr hx hb dX0_at_35 rfl ?_
    refine lv_sipush (v := nI 255) hx hb dX0_at_36 ks_255 ?_
    refine lv_iand hx hb dX0_at_39 ?_
    exact W.iret hx hb hr (fun t ht hW => ⟨⟨_, (), rfl, sg_at_h _ (by omega), by rw [ht]; exact hI.1, va_K.moved hW.alike hK, hI.2.1⟩, hI.2.2.F ht⟩) hI.2.2.2.2 dX0_at_40
  · refine lv_aload_n hx hb dX0_at_8 rfl (lv_at hl 0 rfl) ?_
    refine sp_get0 (v := .ref (ad 1)) F hK hI.1 rfl 0 (by decide) q22 rfl rfl dX0_at_9 ?_
    refine lv_iload_n hx hb dX0_at_12 rfl (lv_at hl 1 rfl) ?_
    refine lv_bipush (v := nI 8) hx hb dX0_at_13 kb_8 ?_
    refine sp_idiv (z := P / 8) hx hb (by omega) (by decide) (by decide) rfl dX0_at_15 ?_
    refine sp_iald (v := (sg_l (S (P / 8)))) hx hb hK hI.1 1 rfl rfl (by decide) (by omega) (hS _ (by omega)).1 dX0_at_16 ?_
    refine lv_goto (tgt := 29) hx hb dX0_at_17 (by decide) ?_
    refine lv_bipush (v := nI 8) hx hb dX0_at_29 kb_8 ?_
    refine lv_iload_n hx hb dX0_at_31 rfl (lv_at hl 1 rfl) ?_
    refine lv_iconst (v := nI 4) hx hb dX0_at_32 kc_4 ?_
    refine sp_irem (z := P % 4) hx hb (by omega) (by decide) (by decide) rfl dX0_at_33 ?_
    refine sp_imul (z := 8 * (P % 4)) hx hb rfl dX0_at_34 ?_
    refine lv_iushr hx hb dX0_at_35 rfl ?_
    refine lv_sipush (v := nI 255) hx hb dX0_at_36 ks_255 ?_
    refine lv_iand hx hb dX0_at_39 ?_
    exact W.iret hx hb hr (fun t ht hW => ⟨⟨_, (), rfl, sg_at_l _ c1, by rw [ht]; exact hI.1, va_K.moved hW.alike hK, hI.2.1⟩, hI.2.2.F ht⟩) hI.2.2.2.2 dX0_at_40
end
section
/-! init; printed by gen/m_init.py -/
set_option maxHeartbeats 4000000 in
set_option maxRecDepth 100000 in
/-- init: the bits of one constant -/
theorem in_b {p : Program} {l : Launch} {e : Env} {R : Room} {s : State} {m : MethodId} {args : Array Value} {below : List Frame} {meth : Method} {c : Code} {Q : State → Prop} {D : va_G} {A : Nat → Prop} {H0 : Heap} {ad : Nat → Nat} {d : ClassId} {lo hi rt tl th : Nat → Int32} {rd ra su po pp li gi ta : Int32} {i : Nat} (F : CallFix p m c cX0_init_2 6 s args lw_all RX0) (hK : va_K D vwCl [(d, .int)] s) (hi24 : i < 24)
    (kx : ∀ (rl rh : Nat → Int32) (H : Heap) (locs : List Loc) (ls : Array Slot), sg_to (i + 1) rl rh → sp_in D A H0 (spW ad d lo hi rl rh rt tl th rd ra su po pp li gi ta) H locs → lv_has ls 6 [(0, .ref (ad 0)), (1, .int (nI (sg_s (7 * (i + 1))))), (2, .int (nI i))] → W p l e R s m args below meth c H locs 0 0 Q (F0 m 102 ls [])) :
    ∀ (n j : Nat) (rl rh : Nat → Int32) (H : Heap) (locs : List Loc) (ls : Array Slot), j ≤ 7 → 7 < j + n → sg_ti i j rl rh → sp_in D A H0 (spW ad d lo hi rl rh rt tl th rd ra su po pp li gi ta) H locs → lv_has ls 6 [(0, .ref (ad 0)), (1, .int (nI (sg_s (7 * i + j)))), (2, .int (nI i)), (3, .int (nI j))] → W p l e R s m args below meth c H locs 0 0 Q (F0 m 20 ls []) := by
  have hx := F.1
  have hb := F.2.1
  intro n
  induction n with
  | zero =>
    intro j rl rh H locs ls h1 h2
    exact absurd h2 (by omega)
  | succ n ih =>
    intro j rl rh H locs ls h1 h2 hinv hI hl
    refine lv_iload_n hx hb dX0_init_2_20 rfl (lv_at hl 3 rfl) ?_
    refine lv_bipush (v := nI 7) hx hb dX0_init_2_21 kb_7 ?_
    refine sp_ge (tgt := 102) hx hb (by omega) (by omega)  dX0_init_2_23 (by decide) (fun c1 => ?_) (fun c1 => ?_)
    · have hj : j = 7 := by omega
      subst hj
      exact kx rl rh H locs ls (sg_ti7 hinv) hI (lv_sub hl [0, 1, 2] rfl)
    · have hpw := sg_pw j (by omega)
      have hs := sg_slt (7 * i + j) (by omega)
      have hst := sg_s1 (7 * i + j) (by omega)
      have hxl := sg_xlt _ hs
      have hp6 := sg_pw6 j c1
      refine lv_iconst (v := nI 1) hx hb dX0_init_2_26 kc_1 ?_
      refine lv_iload_n hx hb dX0_init_2_27 rfl (lv_at hl 3 rfl) ?_
      refine lv_ishl hx hb dX0_init_2_28 ?_
      refine sp_topi (y := (nI (2 ^ j))) (sg_1shl j c1) ?_
      refine lv_iconst (v := nI 1) hx hb dX0_init_2_29 kc_1 ?_
      refine sp_isub (z := (2 ^ j) - 1) hx hb (by omega) rfl dX0_init_2_30 ?_
      refine lv_istore (lv' := [(4, .int (nI ((2 ^ j) - 1))), (0, .ref (ad 0)), (1, .int (nI (sg_s (7 * i + j)))), (2, .int (nI i)), (3, .int (nI j))]) hx hb dX0_init_2_31 hl (by decide) rfl (fun ls hl => ?_)
      refine lv_iload_n hx hb dX0_init_2_33 rfl (lv_at hl 2 rfl) ?_
      refine lv_iconst (v := nI 1) hx hb dX0_init_2_34 kc_1 ?_
      refine lv_iand hx hb dX0_init_2_35 ?_
      refine sp_topi (y := (nI ((sg_s (7 * i + j)) % 2))) (sg_and1 _) ?_
      refine lv_iconst (v := nI 1) hx hb dX0_init_2_36 kc_1 ?_
      refine sp_ne (tgt := 79) hx hb (by omega) (by omega)  dX0_init_2_37 (by decide) (fun c2 => ?_) (fun c2 => ?_)
      · refine lv_iload_n hx hb dX0_init_2_79 rfl (lv_at hl 2 rfl) ?_
        refine lv_iconst (v := nI 1) hx hb dX0_init_2_80 kc_1 ?_
        refine lv_ishl hx hb dX0_init_2_81 ?_
        refine sp_topi (y := (nI (2 * (sg_s (7 * i + j))))) (sg_2shl _ hs) ?_
        refine lv_istore_n (lv' := [(1, .int (nI (2 * (sg_s (7 * i + j))))), (4, .int (nI ((2 ^ j) - 1))), (0, .ref (ad 0)), (2, .int (nI i)), (3, .int (nI j))]) hx hb dX0_init_2_82 rfl hl (by decide) rfl (fun ls hl => ?_)
        refine lv_iload_n hx hb dX0_init_2_83 rfl (lv_at hl 0 rfl) ?_
        refine lv_sipush (v := nI 255) hx hb dX0_init_2_84 ks_255 ?_
        refine sp_le (tgt := 96) hx hb (by omega) (by omega)  dX0_init_2_87 (by decide) (fun c4 => ?_) (fun c4 => ?_)
        · have e4 : 2 * (sg_s (7 * i + j)) = sg_s (7 * i + (j + 1)) := by rw [if_pos c4] at hst; exact hst.symm
          rw [e4] at hl
          refine lv_iinc (v := (nI (j + 1))) (lv' := [(3, .int (nI (j + 1))), (1, .int (nI (sg_s (7 * i + (j + 1))))), (4, .int (nI ((2 ^ j) - 1))), (0, .ref (ad 0)), (2, .int (nI i))]) hx hb dX0_init_2_96 hl (k := 4) rfl (ki_1 _) (by decide) rfl (fun ls hl => ?_)
          refine lv_goto (tgt := 20) hx hb dX0_init_2_99 (by decide) ?_
          exact ih (j + 1) rl rh H locs ls (by omega) (by omega) (sg_tiN hi24 c1 hinv c2) hI (lv_sub hl [3, 1, 4, 0] rfl)
        · refine lv_iload_n hx hb dX0_init_2_90 rfl (lv_at hl 0 rfl) ?_
          refine lv_sipush (v := nI 369) hx hb dX0_init_2_91 ks_369 ?_
          refine lv_ixor hx hb dX0_init_2_94 ?_
          refine sp_topi (y := (nI (sg_s (7 * i + (j + 1))))) (by rw [if_neg (Nat.not_le.mpr c4)] at hst; rw [nx_xor]; exact congrArg nI hst.symm) ?_
          refine lv_istore_n (lv' := [(1, .int (nI (sg_s (7 * i + (j + 1))))), (4, .int (nI ((2 ^ j) - 1))), (0, .ref (ad 0)), (2, .int (nI i)), (3, .int (nI j))]) hx hb dX0_init_2_95 rfl hl (by decide) rfl (fun ls hl => ?_)
          refine lv_iinc (v := (nI (j + 1))) (lv' := [(3, .int (nI (j + 1))), (1, .int (nI (sg_s (7 * i + (j + 1))))), (4, .int (nI ((2 ^ j) - 1))), (0, .ref (ad 0)), (2, .int (nI i))]) hx hb dX0_init_2_96 hl (k := 4) rfl (ki_1 _) (by decide) rfl (fun ls hl => ?_)
          refine lv_goto (tgt := 20) hx hb dX0_init_2_99 (by decide) ?_
          exact ih (j + 1) rl rh H locs ls (by omega) (by omega) (sg_tiN hi24 c1 hinv c2) hI (lv_sub hl [3, 1, 4, 0] rfl)
      · refine lv_iload hx hb dX0_init_2_40 (lv_at hl 0 rfl) ?_
        refine lv_bipush (v := nI 32) hx hb dX0_init_2_42 kb_32 ?_
        refine sp_ge (tgt := 63) hx hb (by omega) (by omega)  dX0_init_2_44 (by decide) (fun c3 => ?_) (fun c3 => ?_)
        · have hj : j = 6 := by omega
          subst hj
          refine lv_aload_n hx hb dX0_init_2_63 rfl (lv_at hl 1 rfl) ?_
          refine sp_get0 (v := .ref (ad 4)) F hK hI.1 rfl 3 (by decide) q25 rfl rfl dX0_init_2_64 ?_
          refine lv_iload_n hx hb dX0_init_2_67 rfl (lv_at hl 3 rfl) ?_
          refine lv_dup2_11 hx hb dX0_init_2_68 rfl rfl ?_
          refine sp_iald (v := (sg_h (sg_Rp i 6))) hx hb hK hI.1 4 rfl rfl (by decide) (by omega) hinv.2.1.2 dX0_init_2_69 ?_
          refine lv_iconst (v := nI 1) hx hb dX0_init_2_70 kc_1 ?_
          refine lv_iload hx hb dX0_init_2_71 (lv_at hl 0 rfl) ?_
          refine lv_bipush (v := nI 32) hx hb dX0_init_2_73 kb_32 ?_
          refine sp_isub (z := ((2 ^ 6) - 1) - 32) hx hb (by omega) rfl dX0_init_2_75 ?_
          refine lv_ishl hx hb dX0_init_2_76 ?_
          refine lv_ior hx hb dX0_init_2_77 ?_
          refine sp_topi (y := (sg_h (sg_Rp i 7))) (sg_tabh i hi24 c2).1 ?_
          refine sp_iast hx hb hK hI 4 rfl rfl (by decide) (by omega) dX0_init_2_78 (fun H locs rh1 erh1 hI => ?_)
          have hI : sp_in D A _ (spW ad d lo hi rl rh1 rt tl th rd ra su po pp li gi ta) H locs := hI
          refine lv_iload_n hx hb dX0_init_2_79 rfl (lv_at hl 2 rfl) ?_
          refine lv_iconst (v := nI 1) hx hb dX0_init_2_80 kc_1 ?_
          refine lv_ishl hx hb dX0_init_2_81 ?_
          refine sp_topi (y := (nI (2 * (sg_s (7 * i + 6))))) (sg_2shl _ hs) ?_
          refine lv_istore_n (lv' := [(1, .int (nI (2 * (sg_s (7 * i + 6))))), (4, .int (nI ((2 ^ 6) - 1))), (0, .ref (ad 0)), (2, .int (nI i)), (3, .int (nI 6))]) hx hb dX0_init_2_82 rfl hl (by decide) rfl (fun ls hl => ?_)
          refine lv_iload_n hx hb dX0_init_2_83 rfl (lv_at hl 0 rfl) ?_
          refine lv_sipush (v := nI 255) hx hb dX0_init_2_84 ks_255 ?_
          refine sp_le (tgt := 96) hx hb (by omega) (by omega)  dX0_init_2_87 (by decide) (fun c4 => ?_) (fun c4 => ?_)
          · have e4 : 2 * (sg_s (7 * i + 6)) = sg_s (7 * i + (6 + 1)) := by rw [if_pos c4] at hst; exact hst.symm
            rw [e4] at hl
            refine lv_iinc (v := (nI (6 + 1))) (lv' := [(3, .int (nI (6 + 1))), (1, .int (nI (sg_s (7 * i + (6 + 1))))), (4, .int (nI ((2 ^ 6) - 1))), (0, .ref (ad 0)), (2, .int (nI i))]) hx hb dX0_init_2_96 hl (k := 4) rfl (ki_1 _) (by decide) rfl (fun ls hl => ?_)
            refine lv_goto (tgt := 20) hx hb dX0_init_2_99 (by decide) ?_
            exact ih (6 + 1) rl rh1 H locs ls (by omega) (by omega) (sg_tiH hi24 hinv c2 erh1) hI (lv_sub hl [3, 1, 4, 0] rfl)
          · refine lv_iload_n hx hb dX0_init_2_90 rfl (lv_at hl 0 rfl) ?_
            refine lv_sipush (v := nI 369) hx hb dX0_init_2_91 ks_369 ?_
            refine lv_ixor hx hb dX0_init_2_94 ?_
            refine sp_topi (y := (nI (sg_s (7 * i + (6 + 1))))) (by rw [if_neg (Nat.not_le.mpr c4)] at hst; rw [nx_xor]; exact congrArg nI hst.symm) ?_
            refine lv_istore_n (lv' := [(1, .int (nI (sg_s (7 * i + (6 + 1))))), (4, .int (nI ((2 ^ 6) - 1))), (0, .ref (ad 0)), (2, .int (nI i)), (3, .int (nI 6))]) hx hb dX0_init_2_95 rfl hl (by decide) rfl (fun ls hl => ?_)
            refine lv_iinc (v := (nI (6 + 1))) (lv' := [(3, .int (nI (6 + 1))), (1, .int (nI (sg_s (7 * i + (6 + 1))))), (4, .int (nI ((2 ^ 6) - 1))), (0, .ref (ad 0)), (2, .int (nI i))]) hx hb dX0_init_2_96 hl (k := 4) rfl (ki_1 _) (by decide) rfl (fun ls hl => ?_)
            refine lv_goto (tgt := 20) hx hb dX0_init_2_99 (by decide) ?_
            exact ih (6 + 1) rl rh1 H locs ls (by omega) (by omega) (sg_tiH hi24 hinv c2 erh1) hI (lv_sub hl [3, 1, 4, 0] rfl)
        · refine lv_aload_n hx hb dX0_init_2_47 rfl (lv_at hl 1 rfl) ?_
          refine sp_get0 (v := .ref (ad 3)) F hK hI.1 rfl 2 (by decide) q24 rfl rfl dX0_init_2_48 ?_
          refine lv_iload_n hx hb dX0_init_2_51 rfl (lv_at hl 3 rfl) ?_
          refine lv_dup2_11 hx hb dX0_init_2_52 rfl rfl ?_
          refine sp_iald (v := (sg_l (sg_Rp i j))) hx hb hK hI.1 3 rfl rfl (by decide) (by omega) hinv.2.1.1 dX0_init_2_53 ?_
          refine lv_iconst (v := nI 1) hx hb dX0_init_2_54 kc_1 ?_
          refine lv_iload hx hb dX0_init_2_55 (lv_at hl 0 rfl) ?_
          refine lv_ishl hx hb dX0_init_2_57 ?_
          refine lv_ior hx hb dX0_init_2_58 ?_
          refine sp_topi (y := (sg_l (sg_Rp i (j + 1)))) (sg_tabl i hi24 j (hp6.mp c3) c2).1 ?_
          refine sp_iast hx hb hK hI 3 rfl rfl (by decide) (by omega) dX0_init_2_59 (fun H locs rl1 erl1 hI => ?_)
          have hI : sp_in D A _ (spW ad d lo hi rl1 rh rt tl th rd ra su po pp li gi ta) H locs := hI
          refine lv_goto (tgt := 79) hx hb dX0_init_2_60 (by decide) ?_
          refine lv_iload_n hx hb dX0_init_2_79 rfl (lv_at hl 2 rfl) ?_
          refine lv_iconst (v := nI 1) hx hb dX0_init_2_80 kc_1 ?_
          refine lv_ishl hx hb dX0_init_2_81 ?_
          refine sp_topi (y := (nI (2 * (sg_s (7 * i + j))))) (sg_2shl _ hs) ?_
          refine lv_istore_n (lv' := [(1, .int (nI (2 * (sg_s (7 * i + j))))), (4, .int (nI ((2 ^ j) - 1))), (0, .ref (ad 0)), (2, .int (nI i)), (3, .int (nI j))]) hx hb dX0_init_2_82 rfl hl (by decide) rfl (fun ls hl => ?_)
          refine lv_iload_n hx hb dX0_init_2_83 rfl (lv_at hl 0 rfl) ?_
          refine lv_sipush (v := nI 255) hx hb dX0_init_2_84 ks_255 ?_
          refine sp_le (tgt := 96) hx hb (by omega) (by omega)  dX0_init_2_87 (by decide) (fun c4 => ?_) (fun c4 => ?_)
          · have e4 : 2 * (sg_s (7 * i + j)) = sg_s (7 * i + (j + 1)) := by rw [if_pos c4] at hst; exact hst.symm
            rw [e4] at hl
            refine lv_iinc (v := (nI (j + 1))) (lv' := [(3, .int (nI (j + 1))), (1, .int (nI (sg_s (7 * i + (j + 1))))), (4, .int (nI ((2 ^ j) - 1))), (0, .ref (ad 0)), (2, .int (nI i))]) hx hb dX0_init_2_96 hl (k := 4) rfl (ki_1 _) (by decide) rfl (fun ls hl => ?_)
            refine lv_goto (tgt := 20) hx hb dX0_init_2_99 (by decide) ?_
            exact ih (j + 1) rl1 rh H locs ls (by omega) (by omega) (sg_tiL hi24 (hp6.mp c3) hinv c2 erl1) hI (lv_sub hl [3, 1, 4, 0] rfl)
          · refine lv_iload_n hx hb dX0_init_2_90 rfl (lv_at hl 0 rfl) ?_
            refine lv_sipush (v := nI 369) hx hb dX0_init_2_91 ks_369 ?_
            refine lv_ixor hx hb dX0_init_2_94 ?_
            refine sp_topi (y := (nI (sg_s (7 * i + (j + 1))))) (by rw [if_neg (Nat.not_le.mpr c4)] at hst; rw [nx_xor]; exact congrArg nI hst.symm) ?_
            refine lv_istore_n (lv' := [(1, .int (nI (sg_s (7 * i + (j + 1))))), (4, .int (nI ((2 ^ j) - 1))), (0, .ref (ad 0)), (2, .int (nI i)), (3, .int (nI j))]) hx hb dX0_init_2_95 rfl hl (by decide) rfl (fun ls hl => ?_)
            refine lv_iinc (v := (nI (j + 1))) (lv' := [(3, .int (nI (j + 1))), (1, .int (nI (sg_s (7 * i + (j + 1))))), (4, .int (nI ((2 ^ j) - 1))), (0, .ref (ad 0)), (2, .int (nI i))]) hx hb dX0_init_2_96 hl (k := 4) rfl (ki_1 _) (by decide) rfl (fun ls hl => ?_)
            refine lv_goto (tgt := 20) hx hb dX0_init_2_99 (by decide) ?_
            exact ih (j + 1) rl1 rh H locs ls (by omega) (by omega) (sg_tiL hi24 (hp6.mp c3) hinv c2 erl1) hI (lv_sub hl [3, 1, 4, 0] rfl)
set_option maxHeartbeats 4000000 in
set_option maxRecDepth 100000 in
/-- init: the constants -/
theorem in_a {p : Program} {l : Launch} {e : Env} {R : Room} {s : State} {m : MethodId} {args : Array Value} {below : List Frame} {meth : Method} {c : Code} {Q : State → Prop} {D : va_G} {A : Nat → Prop} {H0 : Heap} {ad : Nat → Nat} {d : ClassId} {lo hi rt tl th : Nat → Int32} {rd ra su po pp li gi ta : Int32} (F : CallFix p m c cX0_init_2 6 s args lw_all RX0) (hK : va_K D vwCl [(d, .int)] s) 
    (kx : ∀ (rl rh : Nat → Int32) (H : Heap) (locs : List Loc) (ls : Array Slot), sg_to 24 rl rh → sp_in D A H0 (spW ad d lo hi rl rh rt tl th rd ra su po pp li gi ta) H locs → lv_has ls 6 [(0, .ref (ad 0))] → W p l e R s m args below meth c H locs 0 0 Q (F0 m 108 ls [])) :
    ∀ (n i : Nat) (rl rh : Nat → Int32) (H : Heap) (locs : List Loc) (ls : Array Slot), i ≤ 24 → 24 < i + n → sg_to i rl rh → sp_in D A H0 (spW ad d lo hi rl rh rt tl th rd ra su po pp li gi ta) H locs → lv_has ls 6 [(0, .ref (ad 0)), (1, .int (nI (sg_s (7 * i)))), (2, .int (nI i))] → W p l e R s m args below meth c H locs 0 0 Q (F0 m 12 ls []) := by
  have hx := F.1
  have hb := F.2.1
  intro n
  induction n with
  | zero =>
    intro i rl rh H locs ls h1 h2
    exact absurd h2 (by omega)
  | succ n ih =>
    intro i rl rh H locs ls h1 h2 hinv hI hl
    refine lv_iload_n hx hb dX0_init_2_12 rfl (lv_at hl 2 rfl) ?_
    refine lv_bipush (v := nI 24) hx hb dX0_init_2_13 kb_24 ?_
    refine sp_ge (tgt := 108) hx hb (by omega) (by omega)  dX0_init_2_15 (by decide) (fun c1 => ?_) (fun c1 => ?_)
    · have hj : i = 24 := by omega
      subst hj
      exact kx rl rh H locs ls hinv hI (lv_sub hl [0] rfl)
    · refine lv_iconst (v := nI 0) hx hb dX0_init_2_18 kc_0 ?_
      refine lv_istore_n (lv' := [(3, .int (nI 0)), (0, .ref (ad 0)), (1, .int (nI (sg_s (7 * i)))), (2, .int (nI i))]) hx hb dX0_init_2_19 rfl hl (by decide) rfl (fun ls hl => ?_)
      refine in_b F hK c1 (fun rl rh H locs ls hinv hI hl => ?_) 8 0 rl rh H locs ls (by omega) (by omega) (sg_ti0 c1 hinv) hI (lv_sub hl [1, 2, 3, 0] rfl)
      refine lv_iinc (v := (nI (i + 1))) (lv' := [(2, .int (nI (i + 1))), (0, .ref (ad 0)), (1, .int (nI (sg_s (7 * (i + 1)))))]) hx hb dX0_init_2_102 hl (k := 2) rfl (ki_1 _) (by decide) rfl (fun ls hl => ?_)
      refine lv_goto (tgt := 12) hx hb dX0_init_2_105 (by decide) ?_
      exact ih (i + 1) rl rh H locs ls (by omega) (by omega) hinv hI (lv_sub hl [1, 2, 0] rfl)
set_option maxHeartbeats 4000000 in
set_option maxRecDepth 100000 in
/-- init: the turns -/
theorem in_c {p : Program} {l : Launch} {e : Env} {R : Room} {s : State} {m : MethodId} {args : Array Value} {below : List Frame} {meth : Method} {c : Code} {Q : State → Prop} {D : va_G} {A : Nat → Prop} {H0 : Heap} {ad : Nat → Nat} {d : ClassId} {lo hi rl rh tl th : Nat → Int32} {rd ra su po pp li gi ta : Int32} (F : CallFix p m c cX0_init_2 6 s args lw_all RX0) (hK : va_K D vwCl [(d, .int)] s) 
    (kx : ∀ (rt : Nat → Int32) (H : Heap) (locs : List Loc) (ls : Array Slot), sg_tt 24 rt → sp_in D A H0 (spW ad d lo hi rl rh rt tl th rd ra su po pp li gi ta) H locs → lv_has ls 6 [(0, .ref (ad 0))] → W p l e R s m args below meth c H locs 0 0 Q (F0 m 168 ls [])) :
    ∀ (n t : Nat) (rt : Nat → Int32) (H : Heap) (locs : List Loc) (ls : Array Slot), t ≤ 24 → 24 < t + n → sg_tt t rt → sp_in D A H0 (spW ad d lo hi rl rh rt tl th rd ra su po pp li gi ta) H locs → lv_has ls 6 [(0, .ref (ad 0)), (2, .int (nI (sg_wx t))), (3, .int (nI (sg_wy t))), (4, .int (nI t))] → W p l e R s m args below meth c H locs 0 0 Q (F0 m 115 ls []) := by
  have hx := F.1
  have hb := F.2.1
  intro n
  induction n with
  | zero =>
    intro t rt H locs ls h1 h2
    exact absurd h2 (by omega)
  | succ n ih =>
    intro t rt H locs ls h1 h2 hinv hI hl
    refine lv_iload hx hb dX0_init_2_115 (lv_at hl 3 rfl) ?_
    refine lv_bipush (v := nI 24) hx hb dX0_init_2_117 kb_24 ?_
    refine sp_ge (tgt := 168) hx hb (by omega) (by omega)  dX0_init_2_119 (by decide) (fun c1 => ?_) (fun c1 => ?_)
    · have hj : t = 24 := by omega
      subst hj
      exact kx rt H locs ls hinv hI (lv_sub hl [0] rfl)
    · have hw5 := sg_w5 t (by omega)
      have hq : (t + 1) * (t + 2) ≤ 24 * 25 := Nat.mul_le_mul (by omega) (by omega)
      refine lv_aload_n hx hb dX0_init_2_122 rfl (lv_at hl 0 rfl) ?_
      refine sp_get0 (v := .ref (ad 5)) F hK hI.1 rfl 4 (by decide) q26 rfl rfl dX0_init_2_123 ?_
      refine lv_iload_n hx hb dX0_init_2_126 rfl (lv_at hl 1 rfl) ?_
      refine lv_iconst (v := nI 5) hx hb dX0_init_2_127 kc_5 ?_
      refine lv_iload_n hx hb dX0_init_2_128 rfl (lv_at hl 2 rfl) ?_
      refine sp_imul (z := 5 * (sg_wy t)) hx hb rfl dX0_init_2_129 ?_
      refine sp_iadd (z := (sg_wx t) + (5 * (sg_wy t))) hx hb rfl dX0_init_2_130 ?_
      refine lv_iload hx hb dX0_init_2_131 (lv_at hl 3 rfl) ?_
      refine lv_iconst (v := nI 1) hx hb dX0_init_2_133 kc_1 ?_
      refine sp_iadd (z := t + 1) hx hb rfl dX0_init_2_134 ?_
      refine lv_iload hx hb dX0_init_2_135 (lv_at hl 3 rfl) ?_
      refine lv_iconst (v := nI 2) hx hb dX0_init_2_137 kc_2 ?_
      refine sp_iadd (z := t + 2) hx hb rfl dX0_init_2_138 ?_
      refine sp_imul (z := (t + 1) * (t + 2)) hx hb rfl dX0_init_2_139 ?_
      refine lv_iconst (v := nI 2) hx hb dX0_init_2_140 kc_2 ?_
      refine sp_idiv (z := ((t + 1) * (t + 2)) / 2) hx hb (by omega) (by decide) (by decide) rfl dX0_init_2_141 ?_
      refine lv_bipush (v := nI 64) hx hb dX0_init_2_142 kb_64 ?_
      refine sp_irem (z := (((t + 1) * (t + 2)) / 2) % 64) hx hb (by omega) (by decide) (by decide) rfl dX0_init_2_144 ?_
      refine sp_topi (y := (nI (sg_R (sg_sw t)))) (by rw [(sg_d25 t c1).2.2.2.2.2]) ?_
      refine sp_iast hx hb hK hI 5 rfl rfl (by decide) (by omega) dX0_init_2_145 (fun H locs rt1 ert1 hI => ?_)
      have hI : sp_in D A _ (spW ad d lo hi rl rh rt1 tl th rd ra su po pp li gi ta) H locs := hI
      refine lv_iconst (v := nI 2) hx hb dX0_init_2_146 kc_2 ?_
      refine lv_iload_n hx hb dX0_init_2_147 rfl (lv_at hl 1 rfl) ?_
      refine sp_imul (z := 2 * (sg_wx t)) hx hb rfl dX0_init_2_148 ?_
      refine lv_iconst (v := nI 3) hx hb dX0_init_2_149 kc_3 ?_
      refine lv_iload_n hx hb dX0_init_2_150 rfl (lv_at hl 2 rfl) ?_
      refine sp_imul (z := 3 * (sg_wy t)) hx hb rfl dX0_init_2_151 ?_
      refine sp_iadd (z := (2 * (sg_wx t)) + (3 * (sg_wy t))) hx hb rfl dX0_init_2_152 ?_
      refine lv_iconst (v := nI 5) hx hb dX0_init_2_153 kc_5 ?_
      refine sp_irem (z := ((2 * (sg_wx t)) + (3 * (sg_wy t))) % 5) hx hb (by omega) (by decide) (by decide) rfl dX0_init_2_154 ?_
      refine lv_istore (lv' := [(5, .int (nI (((2 * (sg_wx t)) + (3 * (sg_wy t))) % 5))), (0, .ref (ad 0)), (2, .int (nI (sg_wx t))), (3, .int (nI (sg_wy t))), (4, .int (nI t))]) hx hb dX0_init_2_155 hl (by decide) rfl (fun ls hl => ?_)
      refine lv_iload_n hx hb dX0_init_2_157 rfl (lv_at hl 3 rfl) ?_
      refine lv_istore_n (lv' := [(2, .int (nI (sg_wy t))), (5, .int (nI (((2 * (sg_wx t)) + (3 * (sg_wy t))) % 5))), (0, .ref (ad 0)), (3, .int (nI (sg_wy t))), (4, .int (nI t))]) hx hb dX0_init_2_158 rfl hl (by decide) rfl (fun ls hl => ?_)
      refine lv_iload hx hb dX0_init_2_159 (lv_at hl 1 rfl) ?_
      refine lv_istore_n (lv' := [(3, .int (nI (((2 * (sg_wx t)) + (3 * (sg_wy t))) % 5))), (2, .int (nI (sg_wy t))), (5, .int (nI (((2 * (sg_wx t)) + (3 * (sg_wy t))) % 5))), (0, .ref (ad 0)), (4, .int (nI t))]) hx hb dX0_init_2_161 rfl hl (by decide) rfl (fun ls hl => ?_)
      refine lv_iinc (v := (nI (t + 1))) (lv' := [(4, .int (nI (t + 1))), (3, .int (nI (((2 * (sg_wx t)) + (3 * (sg_wy t))) % 5))), (2, .int (nI (sg_wy t))), (5, .int (nI (((2 * (sg_wx t)) + (3 * (sg_wy t))) % 5))), (0, .ref (ad 0))]) hx hb dX0_init_2_162 hl (k := 4) rfl (ki_1 _) (by decide) rfl (fun ls hl => ?_)
      rw [← (sg_w1 t c1).2, ← (sg_w1 t c1).1] at hl
      refine lv_goto (tgt := 115) hx hb dX0_init_2_165 (by decide) ?_
      exact ih (t + 1) rt1 H locs ls (by omega) (by omega) (sg_tt1 c1 hinv ert1) hI (lv_sub hl [4, 2, 1, 0] rfl)
set_option maxHeartbeats 4000000 in
set_option maxRecDepth 100000 in
/-- init: the tables are made -/
theorem met_init (l : Launch) (D : va_G) (ad : Nat → Nat) (d : ClassId) (sz : Nat) (lo hi rl rh rt tl th : Nat → Int32) (rd ra su po pp li gi ta : Int32) (rdy q w P g : Nat) (tk : Int32) (S : Nat → BitVec 64) (hC : sg_CR (rdy, q, w, P, g, tk, S) lo hi rl rh rt rd ra su po pp li gi ta) (h1 : rdy ≤ 1) : Met l yX0_init_2 (ws_ yX0_init_2 cX0_init_2 6 none) { frames := 0, cells := 0, slots := 0, locals := 0 } (va_Pc [.ref (ad 0)] (sp_pre D [(d, .int)] sz (spW ad d lo hi rl rh rt tl th rd ra su po pp li gi ta))) (va_Qv (fun x : (Nat → Nat → Int32) × (Nat → Int32) => sg_CR (sg_init (rdy, q, w, P, g, tk, S)) (x.1 0) (x.1 1) (x.1 2) (x.1 3) (x.1 4) (x.2 0) (x.2 1) (x.2 2) (x.2 3) (x.2 4) (x.2 5) (x.2 6) (x.2 7)) (sp_end D [(d, .int)] (va_A (spW ad d lo hi rl rh rt tl th rd ra su po pp li gi ta) sz) (fun x : (Nat → Nat → Int32) × (Nat → Int32) => spW ad d (x.1 0) (x.1 1) (x.1 2) (x.1 3) (x.1 4) (x.1 5) (x.1 6) (x.2 0) (x.2 1) (x.2 2) (x.2 3) (x.2 4) (x.2 5) (x.2 6) (x.2 7))) (va_A (spW ad d lo hi rl rh rt tl th rd ra su po pp li gi ta) sz)) 0 0 (va_A (spW ad d lo hi rl rh rt tl th rd ra su po pp li gi ta) sz) := by
  obtain ⟨c1, c2, c3, c4, c5, c6, c7⟩ := hC
  subst c1
  subst c2
  subst c3
  subst c4
  refine Met.ofW (cc := cX0_init_2) (maxL := 6) (ret := none) (by decide) rfl ?_
  intro p e s m args below meth c s₁ B hml hv
  obtain ⟨rfl, hsz, hP, hK, hD0⟩ := hv
  subst hsz
  have hts := atoms_spec (ws := ws_ yX0_init_2 cX0_init_2 6 none) B.pre
  have F : CallFix p m c cX0_init_2 6 s ([.ref (ad 0)] : List Value).toArray lw_all RX0 := ⟨B.exec, B.bytes, hml, findClass_of_methodNamed B.named, fun w h => hts w (List.mem_cons_of_mem _ h)⟩
  have hx := F.1
  have hb := F.2.1
  have hr := B.returns
  have hlocks := B.notSynchronized
  have hD := hD0.self (sz := s.heap.size)
  generalize hAe : va_A (spW ad d lo hi rl rh rt tl th (nI rdy) ra su po (nI q) li (nI g) ta) s.heap.size = A at hD ⊢
  have hA : ∀ q : Nat, s.heap.size ≤ q → A q := fun q h => by rw [← hAe]; exact Or.inr h
  have hI : sp_in D A s.heap (spW ad d lo hi rl rh rt tl th (nI rdy) ra su po (nI q) li (nI g) ta) s.heap [] := ⟨hP, hD, va_S.rf⟩
  have hl := lv_entry ([.ref (ad 0)]) (n := 6) (Nat.le_of_ble_eq_true rfl)
  rw [lg_entry_eq]
  generalize (lg_sl ([.ref (ad 0)]) ++ List.replicate (6 - (lg_sl ([.ref (ad 0)])).length) Slot.unset).toArray = ls at hl ⊢
  have hl : lv_has ls 6 [(0, .ref (ad 0))] := hl
  refine lv_aload_n hx hb dX0_init_2_0 rfl (lv_at hl 0 rfl) ?_
  refine sp_get0 (v := .int (nI rdy)) F hK hI.1 rfl 7 (by decide) q29 rfl rfl dX0_init_2_1 ?_
  refine sp_ife (tgt := 8) hx hb (by omega) dX0_init_2_4 (by decide) (fun c8 => ?_) (fun c8 => ?_)
  · refine lv_iconst (v := nI 1) hx hb dX0_init_2_8 kc_1 ?_
    refine lv_istore_n (lv' := [(1, .int (nI 1)), (0, .ref (ad 0))]) hx hb dX0_init_2_9 rfl hl (by decide) rfl (fun ls hl => ?_)
    refine lv_iconst (v := nI 0) hx hb dX0_init_2_10 kc_0 ?_
    refine lv_istore_n (lv' := [(2, .int (nI 0)), (1, .int (nI 1)), (0, .ref (ad 0))]) hx hb dX0_init_2_11 rfl hl (by decide) rfl (fun ls hl => ?_)
    refine in_a F hK (fun rl rh H locs ls htb hI hl => ?_) 25 0 rl rh _ _ ls (by omega) (by omega) ⟨fun k h => absurd h (by omega), fun k _ h => (c5 c8).1 k h⟩ hI (lv_sub hl [2, 1, 0] rfl)
    refine lv_iconst (v := nI 1) hx hb dX0_init_2_108 kc_1 ?_
    refine lv_istore_n (lv' := [(2, .int (nI 1)), (0, .ref (ad 0))]) hx hb dX0_init_2_109 rfl hl (by decide) rfl (fun ls hl => ?_)
    refine lv_iconst (v := nI 0) hx hb dX0_init_2_110 kc_0 ?_
    refine lv_istore_n (lv' := [(3, .int (nI 0)), (2, .int (nI 1)), (0, .ref (ad 0))]) hx hb dX0_init_2_111 rfl hl (by decide) rfl (fun ls hl => ?_)
    refine lv_iconst (v := nI 0) hx hb dX0_init_2_112 kc_0 ?_
    refine lv_istore (lv' := [(4, .int (nI 0)), (3, .int (nI 0)), (2, .int (nI 1)), (0, .ref (ad 0))]) hx hb dX0_init_2_113 hl (by decide) rfl (fun ls hl => ?_)
    refine in_c F hK (fun rt H locs ls hu hI hl => ?_) 25 0 rt H locs ls (by omega) (by omega) ⟨(c5 c8).2 0 (by omega), fun k h => absurd h (by omega)⟩ hI (lv_sub hl [3, 2, 1, 0] rfl)
    refine lv_aload_n hx hb dX0_init_2_168 rfl (lv_at hl 0 rfl) ?_
    refine lv_iconst (v := nI 1) hx hb dX0_init_2_169 kc_1 ?_
    refine sp_put0 (v := .int (nI 1)) (ty := .boolean) F hK hI rfl 7 (by decide) q29 rfl rfl (by decide +kernel) rfl rfl (Nat.le_of_ble_eq_true rfl) dX0_init_2_170 (fun H locs hI => ?_)
    have hI : sp_in D A _ (spW ad d lo hi rl rh rt tl th (nI 1) ra su po (nI q) li (nI g) ta) H locs := hI
    exact W.vret hx hb hr (fun t ht hW => ⟨⟨(sg_f7 lo hi rl rh rt tl th, sg_g8 (nI 1) ra su po (nI q) li (nI g) ta), rfl, ⟨rfl, rfl, rfl, rfl, fun h => absurd h (by decide), fun _ => ⟨htb.1, sg_tte hu⟩, c7⟩, by rw [ht]; exact hI.1, va_K.moved hW.alike hK, hI.2.1⟩, hI.2.2.F ht⟩) hI.2.2.2.2 dX0_init_2_173
  · have hr1 : rdy = 1 := by omega
    subst hr1
    exact W.vret hx hb hr (fun t ht hW => ⟨⟨(sg_f7 lo hi rl rh rt tl th, sg_g8 (nI 1) ra su po (nI q) li (nI g) ta), rfl, ⟨rfl, rfl, rfl, rfl, fun h => absurd h (by decide), c6, c7⟩, by rw [ht]; exact hI.1, va_K.moved hW.alike hK, hI.2.1⟩, hI.2.2.F ht⟩) hI.2.2.2.2 dX0_init_2_7
end
section
/-! the public methods of SpongePairs; printed by gen/m_pub0.py -/
theorem sg_lim_ne {w g : Nat} (hg : g < 2 ^ 31) (h : ¬ (w = 0 ∧ g = 32)) : ¬ nI g = sg_lim w := by
  unfold sg_lim
  by_cases hw : w = 0
  · rw [if_pos hw, nI_eq hg (by decide)]
    exact fun z => h ⟨hw, z⟩
  · rw [if_neg hw]
    intro z
    exact absurd (show nI g < 0 by rw [z]; decide) (nI_pos hg)
set_option maxHeartbeats 4000000 in
set_option maxRecDepth 100000 in
/-- begin: the lanes are cleared -/
theorem be_a {p : Program} {l : Launch} {e : Env} {R : Room} {s : State} {m : MethodId} {args : Array Value} {below : List Frame} {meth : Method} {c : Code} {Q : State → Prop} {D : va_G} {A : Nat → Prop} {H0 : Heap} {ad : Nat → Nat} {d : ClassId} {rl rh rt tl th : Nat → Int32} {rd ra su po pp li gi ta : Int32} {w1 : Nat} (F : CallFix p m c cX0_begin 3 s args lw_all RX0) (hK : va_K D vwCl [(d, .int)] s) 
    (kx : ∀ (lo hi : Nat → Int32) (H : Heap) (locs : List Loc) (ls : Array Slot), sg_LH lo hi (fun _ => 0) → sp_in D A H0 (spW ad d lo hi rl rh rt tl th rd ra su po pp li gi ta) H locs → lv_has ls 3 [(0, .ref (ad 0)), (1, .int (nI w1))] → W p l e R s m args below meth c H locs 0 0 Q (F0 m 46 ls [])) :
    ∀ (n k : Nat) (lo hi : Nat → Int32) (H : Heap) (locs : List Loc) (ls : Array Slot), k ≤ 25 → 25 < k + n → (∀ j, j < k → lo j = sg_l ((fun _ => 0 : Nat → BitVec 64) j) ∧ hi j = sg_h ((fun _ => 0 : Nat → BitVec 64) j)) → sp_in D A H0 (spW ad d lo hi rl rh rt tl th rd ra su po pp li gi ta) H locs → lv_has ls 3 [(0, .ref (ad 0)), (1, .int (nI w1)), (2, .int (nI k))] → W p l e R s m args below meth c H locs 0 0 Q (F0 m 20 ls []) := by
  have hx := F.1
  have hb := F.2.1
  intro n
  induction n with
  | zero =>
    intro k lo hi H locs ls h1 h2
    exact absurd h2 (by omega)
  | succ n ih =>
    intro k lo hi H locs ls h1 h2 hinv hI hl
    refine lv_iload_n hx hb dX0_begin_20 rfl (lv_at hl 2 rfl) ?_
    refine lv_bipush (v := nI 25) hx hb dX0_begin_21 kb_25 ?_
    refine sp_ge (tgt := 46) hx hb (by omega) (by omega)  dX0_begin_23 (by decide) (fun c1 => ?_) (fun c1 => ?_)
    · have hj : k = 25 := by omega
      subst hj
      exact kx lo hi H locs ls hinv hI (lv_sub hl [0, 1] rfl)
    · refine lv_aload_n hx hb dX0_begin_26 rfl (lv_at hl 0 rfl) ?_
      refine sp_get0 (v := .ref (ad 1)) F hK hI.1 rfl 0 (by decide) q22 rfl rfl dX0_begin_27 ?_
      refine lv_iload_n hx hb dX0_begin_30 rfl (lv_at hl 2 rfl) ?_
      refine lv_iconst (v := nI 0) hx hb dX0_begin_31 kc_0 ?_
      refine sp_iast hx hb hK hI 1 rfl rfl (by decide) (by omega) dX0_begin_32 (fun H locs lo1 elo1 hI => ?_)
      have hI : sp_in D A _ (spW ad d lo1 hi rl rh rt tl th rd ra su po pp li gi ta) H locs := hI
      refine lv_aload_n hx hb dX0_begin_33 rfl (lv_at hl 0 rfl) ?_
      refine sp_get0 (v := .ref (ad 2)) F hK hI.1 rfl 1 (by decide) q23 rfl rfl dX0_begin_34 ?_
      refine lv_iload_n hx hb dX0_begin_37 rfl (lv_at hl 2 rfl) ?_
      refine lv_iconst (v := nI 0) hx hb dX0_begin_38 kc_0 ?_
      refine sp_iast hx hb hK hI 2 rfl rfl (by decide) (by omega) dX0_begin_39 (fun H locs hi1 ehi1 hI => ?_)
      have hI : sp_in D A _ (spW ad d lo1 hi1 rl rh rt tl th rd ra su po pp li gi ta) H locs := hI
      refine lv_iinc (v := (nI (k + 1))) (lv' := [(2, .int (nI (k + 1))), (0, .ref (ad 0)), (1, .int (nI w1))]) hx hb dX0_begin_40 hl (k := 2) rfl (ki_1 _) (by decide) rfl (fun ls hl => ?_)
      refine lv_goto (tgt := 20) hx hb dX0_begin_43 (by decide) ?_
      exact ih (k + 1) lo1 hi1 H locs ls (by omega) (by omega) (sg_step1 (S' := fun _ => 0) hinv (by rw [elo1, sg_l_0]) (by rw [ehi1, sg_h_0])) hI (lv_sub hl [1, 2, 0] rfl)
set_option maxHeartbeats 4000000 in
set_option maxRecDepth 100000 in
/-- begin -/
theorem met_begin (l : Launch) (D : va_G) (ad : Nat → Nat) (d : ClassId) (sz : Nat) (lo hi rl rh rt tl th : Nat → Int32) (rd ra su po pp li gi ta : Int32) (rdy q w P g : Nat) (tk : Int32) (S : Nat → BitVec 64) (hC : sg_CR (rdy, q, w, P, g, tk, S) lo hi rl rh rt rd ra su po pp li gi ta) (n0 : Nat) (hn0 : n0 < 2 ^ 30) (hAI : sg_AI n0 (rdy, q, w, P, g, tk, S)) (v : Int32) : Met l yX0_begin (ws_ yX0_begin cX0_begin 3 (some .boolean)) { frames := 0, cells := 0, slots := 0, locals := 0 } (va_Pc [.ref (ad 0), .int v] (sp_pre D [(d, .int)] sz (spW ad d lo hi rl rh rt tl th rd ra su po pp li gi ta))) (va_Qi (fun (r : Int32) (x : (Nat → Nat → Int32) × (Nat → Int32)) => r = (sg_begin (rdy, q, w, P, g, tk, S) v).1 ∧ sg_CR (sg_begin (rdy, q, w, P, g, tk, S) v).2 (x.1 0) (x.1 1) (x.1 2) (x.1 3) (x.1 4) (x.2 0) (x.2 1) (x.2 2) (x.2 3) (x.2 4) (x.2 5) (x.2 6) (x.2 7)) (sp_end D [(d, .int)] (va_A (spW ad d lo hi rl rh rt tl th rd ra su po pp li gi ta) sz) (fun x : (Nat → Nat → Int32) × (Nat → Int32) => spW ad d (x.1 0) (x.1 1) (x.1 2) (x.1 3) (x.1 4) (x.1 5) (x.1 6) (x.2 0) (x.2 1) (x.2 2) (x.2 3) (x.2 4) (x.2 5) (x.2 6) (x.2 7))) (va_A (spW ad d lo hi rl rh rt tl th rd ra su po pp li gi ta) sz)) 0 0 (va_A (spW ad d lo hi rl rh rt tl th rd ra su po pp li gi ta) sz) := by
  obtain ⟨c1, c2, c3, c4, c5, c6, c7⟩ := hC
  subst c1
  subst c2
  subst c3
  subst c4
  obtain ⟨a1, a2, a3, a4, a5, a6, a7, a8⟩ := hAI
  by_cases hok : rdy ≠ 0 ∧ ¬ v < 0 ∧ v ≤ nI 1
  · obtain ⟨w1, hw1, rfl⟩ := nI_of2 (M := nI 1) (n := 1) (by decide) hok.2.1 hok.2.2
    have hro : rdy = 1 := by have := hok.1; omega
    have hT := c6 hro
    have hf : sg_begin (rdy, q, w, P, g, ta, S) (nI w1) = (nI 1, (rdy, 1, w1, 0, 0, nI 0, fun _ => 0)) := by rw [sg_begin, if_pos hok, nI_clamp (by omega)]
    refine Met.ofW (cc := cX0_begin) (maxL := 3) (ret := (some .boolean)) (by decide) rfl ?_
    intro p e s m args below meth c s₁ B hml hv
    obtain ⟨rfl, hsz, hPw, hK, hD0⟩ := hv
    subst hsz
    have hts := atoms_spec (ws := ws_ yX0_begin cX0_begin 3 (some .boolean)) B.pre
    have F : CallFix p m c cX0_begin 3 s ([.ref (ad 0), .int (nI w1)] : List Value).toArray lw_all RX0 := ⟨B.exec, B.bytes, hml, findClass_of_methodNamed B.named, fun w h => hts w (List.mem_cons_of_mem _ h)⟩
    have hx := F.1
    have hb := F.2.1
    have hr := B.returns
    have hlocks := B.notSynchronized
    have hD := hD0.self (sz := s.heap.size)
    generalize hAe : va_A (spW ad d lo hi rl rh rt tl th (nI rdy) ra su po (nI q) li (nI g) ta) s.heap.size = A at hD ⊢
    have hA : ∀ q : Nat, s.heap.size ≤ q → A q := fun q h => by rw [← hAe]; exact Or.inr h
    have hI : sp_in D A s.heap (spW ad d lo hi rl rh rt tl th (nI rdy) ra su po (nI q) li (nI g) ta) s.heap [] := ⟨hPw, hD, va_S.rf⟩
    have hl := lv_entry ([.ref (ad 0), .int (nI w1)]) (n := 3) (Nat.le_of_ble_eq_true rfl)
    rw [lg_entry_eq]
    generalize (lg_sl ([.ref (ad 0), .int (nI w1)]) ++ List.replicate (3 - (lg_sl ([.ref (ad 0), .int (nI w1)])).length) Slot.unset).toArray = ls at hl ⊢
    have hl : lv_has ls 3 [(0, .ref (ad 0)), (1, .int (nI w1))] := hl
    refine lv_aload_n hx hb dX0_begin_0 rfl (lv_at hl 0 rfl) ?_
    refine sp_get0 (v := .int (nI rdy)) F hK hI.1 rfl 7 (by decide) q29 rfl rfl dX0_begin_1 ?_
    refine sp_ife (tgt := 16) hx hb (by omega) dX0_begin_4 (by decide) (fun d1 => ?_) (fun d1 => ?_)
    · exact absurd hok.1 (fun h => h d1)
    · refine lv_iload_n hx hb dX0_begin_7 rfl (lv_at hl 1 rfl) ?_
      refine lv_if_lt (tgt := 16) hx hb dX0_begin_8 (by decide) (fun d2 => ?_) (fun d2 => ?_)
      · exact absurd d2 (nI_pos (by omega))
      · refine lv_iload_n hx hb dX0_begin_11 rfl (lv_at hl 1 rfl) ?_
        refine lv_iconst (v := nI 1) hx hb dX0_begin_12 kc_1 ?_
        refine sp_le (tgt := 18) hx hb (by omega) (by omega)  dX0_begin_13 (by decide) (fun d3 => ?_) (fun d3 => ?_)
        · refine lv_iconst (v := nI 0) hx hb dX0_begin_18 kc_0 ?_
          refine lv_istore_n (lv' := [(2, .int (nI 0)), (0, .ref (ad 0)), (1, .int (nI w1))]) hx hb dX0_begin_19 rfl hl (by decide) rfl (fun ls hl => ?_)
          refine be_a F hK (fun lo hi H locs ls hz hI hl => ?_) 26 0 lo hi _ _ ls (by omega) (by omega) (fun j h => absurd h (by omega)) hI (lv_sub hl [1, 2, 0] rfl)
          rcases (show w1 = 0 ∨ w1 = 1 by omega) with rfl | rfl
          · refine lv_aload_n hx hb dX0_begin_46 rfl (lv_at hl 0 rfl) ?_
            refine lv_iload_n hx hb dX0_begin_47 rfl (lv_at hl 1 rfl) ?_
            refine sp_ifn (tgt := 57) hx hb (by omega) dX0_begin_48 (by decide) (fun e0 => ?_) (fun e0 => ?_)
            · exact absurd e0 (by omega)
            · refine lv_sipush (v := nI 136) hx hb dX0_begin_51 ks_136 ?_
              refine lv_goto (tgt := 60) hx hb dX0_begin_54 (by decide) ?_
              refine sp_put0 (v := .int (nI 136)) (ty := .int) F hK hI rfl 8 (by decide) q30 rfl rfl (by decide +kernel) rfl rfl (Nat.le_of_ble_eq_true rfl) dX0_begin_60 (fun H locs hI => ?_)
              have hI : sp_in D A _ (spW ad d lo hi rl rh rt tl th (nI rdy) (nI 136) su po (nI q) li (nI g) ta) H locs := hI
              refine lv_aload_n hx hb dX0_begin_63 rfl (lv_at hl 0 rfl) ?_
              refine lv_iload_n hx hb dX0_begin_64 rfl (lv_at hl 1 rfl) ?_
              refine sp_ifn (tgt := 73) hx hb (by omega) dX0_begin_65 (by decide) (fun e1 => ?_) (fun e1 => ?_)
              · exact absurd e1 (by omega)
              · refine lv_bipush (v := nI 6) hx hb dX0_begin_68 kb_6 ?_
                refine lv_goto (tgt := 75) hx hb dX0_begin_70 (by decide) ?_
                refine sp_put0 (v := .int (nI 6)) (ty := .int) F hK hI rfl 9 (by decide) q31 rfl rfl (by decide +kernel) rfl rfl (Nat.le_of_ble_eq_true rfl) dX0_begin_75 (fun H locs hI => ?_)
                have hI : sp_in D A _ (spW ad d lo hi rl rh rt tl th (nI rdy) (nI 136) (nI 6) po (nI q) li (nI g) ta) H locs := hI
                refine lv_aload_n hx hb dX0_begin_78 rfl (lv_at hl 0 rfl) ?_
                refine lv_iload_n hx hb dX0_begin_79 rfl (lv_at hl 1 rfl) ?_
                refine sp_ifn (tgt := 88) hx hb (by omega) dX0_begin_80 (by decide) (fun e2 => ?_) (fun e2 => ?_)
                · exact absurd e2 (by omega)
                · refine lv_bipush (v := nI 32) hx hb dX0_begin_83 kb_32 ?_
                  refine lv_goto (tgt := 89) hx hb dX0_begin_85 (by decide) ?_
                  refine sp_put0 (v := .int (nI 32)) (ty := .int) F hK hI rfl 12 (by decide) q34 rfl rfl (by decide +kernel) rfl rfl (Nat.le_of_ble_eq_true rfl) dX0_begin_89 (fun H locs hI => ?_)
                  have hI : sp_in D A _ (spW ad d lo hi rl rh rt tl th (nI rdy) (nI 136) (nI 6) po (nI q) (nI 32) (nI g) ta) H locs := hI
                  refine lv_aload_n hx hb dX0_begin_92 rfl (lv_at hl 0 rfl) ?_
                  refine lv_iconst (v := nI 0) hx hb dX0_begin_93 kc_0 ?_
                  refine sp_put0 (v := .int (nI 0)) (ty := .int) F hK hI rfl 10 (by decide) q32 rfl rfl (by decide +kernel) rfl rfl (Nat.le_of_ble_eq_true rfl) dX0_begin_94 (fun H locs hI => ?_)
                  have hI : sp_in D A _ (spW ad d lo hi rl rh rt tl th (nI rdy) (nI 136) (nI 6) (nI 0) (nI q) (nI 32) (nI g) ta) H locs := hI
                  refine lv_aload_n hx hb dX0_begin_97 rfl (lv_at hl 0 rfl) ?_
                  refine lv_iconst (v := nI 0) hx hb dX0_begin_98 kc_0 ?_
                  refine sp_put0 (v := .int (nI 0)) (ty := .int) F hK hI rfl 13 (by decide) q35 rfl rfl (by decide +kernel) rfl rfl (Nat.le_of_ble_eq_true rfl) dX0_begin_99 (fun H locs hI => ?_)
                  have hI : sp_in D A _ (spW ad d lo hi rl rh rt tl th (nI rdy) (nI 136) (nI 6) (nI 0) (nI q) (nI 32) (nI 0) ta) H locs := hI
                  refine lv_aload_n hx hb dX0_begin_102 rfl (lv_at hl 0 rfl) ?_
                  refine lv_iconst (v := nI 0) hx hb dX0_begin_103 kc_0 ?_
                  refine sp_put0 (v := .int (nI 0)) (ty := .int) F hK hI rfl 14 (by decide) q36 rfl rfl (by decide +kernel) rfl rfl (Nat.le_of_ble_eq_true rfl) dX0_begin_104 (fun H locs hI => ?_)
                  have hI : sp_in D A _ (spW ad d lo hi rl rh rt tl th (nI rdy) (nI 136) (nI 6) (nI 0) (nI q) (nI 32) (nI 0) (nI 0)) H locs := hI
                  refine lv_aload_n hx hb dX0_begin_107 rfl (lv_at hl 0 rfl) ?_
                  refine lv_iconst (v := nI 1) hx hb dX0_begin_108 kc_1 ?_
                  refine sp_put0 (v := .int (nI 1)) (ty := .int) F hK hI rfl 11 (by decide) q33 rfl rfl (by decide +kernel) rfl rfl (Nat.le_of_ble_eq_true rfl) dX0_begin_109 (fun H locs hI => ?_)
                  have hI : sp_in D A _ (spW ad d lo hi rl rh rt tl th (nI rdy) (nI 136) (nI 6) (nI 0) (nI 1) (nI 32) (nI 0) (nI 0)) H locs := hI
                  refine lv_iconst (v := nI 1) hx hb dX0_begin_112 kc_1 ?_
                  exact W.zret hx hb hr rfl (fun t ht hW => ⟨⟨_, (sg_f7 lo hi rl rh rt tl th, sg_g8 (nI rdy) (nI 136) (nI 6) (nI 0) (nI 1) (nI 32) (nI 0) (nI 0)), rfl, by rw [hf]; exact ⟨rfl, rfl, rfl, rfl, rfl, fun h => absurd (show (1 : Nat) = 0 by omega) (by decide), fun _ => hT, fun _ => ⟨rfl, rfl, rfl, rfl, hz⟩⟩, by rw [ht]; exact hI.1, va_K.moved hW.alike hK, hI.2.1⟩, hI.2.2.F ht⟩) hI.2.2.2.2 dX0_begin_113
          · refine lv_aload_n hx hb dX0_begin_46 rfl (lv_at hl 0 rfl) ?_
            refine lv_iload_n hx hb dX0_begin_47 rfl (lv_at hl 1 rfl) ?_
            refine sp_ifn (tgt := 57) hx hb (by omega) dX0_begin_48 (by decide) (fun e0 => ?_) (fun e0 => ?_)
            · refine lv_sipush (v := nI 168) hx hb dX0_begin_57 ks_168 ?_
              refine sp_put0 (v := .int (nI 168)) (ty := .int) F hK hI rfl 8 (by decide) q30 rfl rfl (by decide +kernel) rfl rfl (Nat.le_of_ble_eq_true rfl) dX0_begin_60 (fun H locs hI => ?_)
              have hI : sp_in D A _ (spW ad d lo hi rl rh rt tl th (nI rdy) (nI 168) su po (nI q) li (nI g) ta) H locs := hI
              refine lv_aload_n hx hb dX0_begin_63 rfl (lv_at hl 0 rfl) ?_
              refine lv_iload_n hx hb dX0_begin_64 rfl (lv_at hl 1 rfl) ?_
              refine sp_ifn (tgt := 73) hx hb (by omega) dX0_begin_65 (by decide) (fun e1 => ?_) (fun e1 => ?_)
              · refine lv_bipush (v := nI 31) hx hb dX0_begin_73 kb_31 ?_
                refine sp_put0 (v := .int (nI 31)) (ty := .int) F hK hI rfl 9 (by decide) q31 rfl rfl (by decide +kernel) rfl rfl (Nat.le_of_ble_eq_true rfl) dX0_begin_75 (fun H locs hI => ?_)
                have hI : sp_in D A _ (spW ad d lo hi rl rh rt tl th (nI rdy) (nI 168) (nI 31) po (nI q) li (nI g) ta) H locs := hI
                refine lv_aload_n hx hb dX0_begin_78 rfl (lv_at hl 0 rfl) ?_
                refine lv_iload_n hx hb dX0_begin_79 rfl (lv_at hl 1 rfl) ?_
                refine sp_ifn (tgt := 88) hx hb (by omega) dX0_begin_80 (by decide) (fun e2 => ?_) (fun e2 => ?_)
                · refine lv_iconst (v := -1) hx hb dX0_begin_88 kc_m1 ?_
                  refine sp_put0 (v := .int ((-1))) (ty := .int) F hK hI rfl 12 (by decide) q34 rfl rfl (by decide +kernel) rfl rfl (Nat.le_of_ble_eq_true rfl) dX0_begin_89 (fun H locs hI => ?_)
                  have hI : sp_in D A _ (spW ad d lo hi rl rh rt tl th (nI rdy) (nI 168) (nI 31) po (nI q) ((-1)) (nI g) ta) H locs := hI
                  refine lv_aload_n hx hb dX0_begin_92 rfl (lv_at hl 0 rfl) ?_
                  refine lv_iconst (v := nI 0) hx hb dX0_begin_93 kc_0 ?_
                  refine sp_put0 (v := .int (nI 0)) (ty := .int) F hK hI rfl 10 (by decide) q32 rfl rfl (by decide +kernel) rfl rfl (Nat.le_of_ble_eq_true rfl) dX0_begin_94 (fun H locs hI => ?_)
                  have hI : sp_in D A _ (spW ad d lo hi rl rh rt tl th (nI rdy) (nI 168) (nI 31) (nI 0) (nI q) ((-1)) (nI g) ta) H locs := hI
                  refine lv_aload_n hx hb dX0_begin_97 rfl (lv_at hl 0 rfl) ?_
                  refine lv_iconst (v := nI 0) hx hb dX0_begin_98 kc_0 ?_
                  refine sp_put0 (v := .int (nI 0)) (ty := .int) F hK hI rfl 13 (by decide) q35 rfl rfl (by decide +kernel) rfl rfl (Nat.le_of_ble_eq_true rfl) dX0_begin_99 (fun H locs hI => ?_)
                  have hI : sp_in D A _ (spW ad d lo hi rl rh rt tl th (nI rdy) (nI 168) (nI 31) (nI 0) (nI q) ((-1)) (nI 0) ta) H locs := hI
                  refine lv_aload_n hx hb dX0_begin_102 rfl (lv_at hl 0 rfl) ?_
                  refine lv_iconst (v := nI 0) hx hb dX0_begin_103 kc_0 ?_
                  refine sp_put0 (v := .int (nI 0)) (ty := .int) F hK hI rfl 14 (by decide) q36 rfl rfl (by decide +kernel) rfl rfl (Nat.le_of_ble_eq_true rfl) dX0_begin_104 (fun H locs hI => ?_)
                  have hI : sp_in D A _ (spW ad d lo hi rl rh rt tl th (nI rdy) (nI 168) (nI 31) (nI 0) (nI q) ((-1)) (nI 0) (nI 0)) H locs := hI
                  refine lv_aload_n hx hb dX0_begin_107 rfl (lv_at hl 0 rfl) ?_
                  refine lv_iconst (v := nI 1) hx hb dX0_begin_108 kc_1 ?_
                  refine sp_put0 (v := .int (nI 1)) (ty := .int) F hK hI rfl 11 (by decide) q33 rfl rfl (by decide +kernel) rfl rfl (Nat.le_of_ble_eq_true rfl) dX0_begin_109 (fun H locs hI => ?_)
                  have hI : sp_in D A _ (spW ad d lo hi rl rh rt tl th (nI rdy) (nI 168) (nI 31) (nI 0) (nI 1) ((-1)) (nI 0) (nI 0)) H locs := hI
                  refine lv_iconst (v := nI 1) hx hb dX0_begin_112 kc_1 ?_
                  exact W.zret hx hb hr rfl (fun t ht hW => ⟨⟨_, (sg_f7 lo hi rl rh rt tl th, sg_g8 (nI rdy) (nI 168) (nI 31) (nI 0) (nI 1) ((-1)) (nI 0) (nI 0)), rfl, by rw [hf]; exact ⟨rfl, rfl, rfl, rfl, rfl, fun h => absurd (show (1 : Nat) = 0 by omega) (by decide), fun _ => hT, fun _ => ⟨rfl, rfl, rfl, rfl, hz⟩⟩, by rw [ht]; exact hI.1, va_K.moved hW.alike hK, hI.2.1⟩, hI.2.2.F ht⟩) hI.2.2.2.2 dX0_begin_113
                · exact absurd e2 (by omega)
              · exact absurd e1 (by omega)
            · exact absurd e0 (by omega)
        · exact absurd d3 (by omega)
  · have hf : sg_begin (rdy, q, w, P, g, ta, S) v = (nI 0, (rdy, q, w, P, g, ta, S)) := by rw [sg_begin, if_neg hok]
    refine Met.ofW (cc := cX0_begin) (maxL := 3) (ret := (some .boolean)) (by decide) rfl ?_
    intro p e s m args below meth c s₁ B hml hv
    obtain ⟨rfl, hsz, hPw, hK, hD0⟩ := hv
    subst hsz
    have hts := atoms_spec (ws := ws_ yX0_begin cX0_begin 3 (some .boolean)) B.pre
    have F : CallFix p m c cX0_begin 3 s ([.ref (ad 0), .int v] : List Value).toArray lw_all RX0 := ⟨B.exec, B.bytes, hml, findClass_of_methodNamed B.named, fun w h => hts w (List.mem_cons_of_mem _ h)⟩
    have hx := F.1
    have hb := F.2.1
    have hr := B.returns
    have hlocks := B.notSynchronized
    have hD := hD0.self (sz := s.heap.size)
    generalize hAe : va_A (spW ad d lo hi rl rh rt tl th (nI rdy) ra su po (nI q) li (nI g) ta) s.heap.size = A at hD ⊢
    have hA : ∀ q : Nat, s.heap.size ≤ q → A q := fun q h => by rw [← hAe]; exact Or.inr h
    have hI : sp_in D A s.heap (spW ad d lo hi rl rh rt tl th (nI rdy) ra su po (nI q) li (nI g) ta) s.heap [] := ⟨hPw, hD, va_S.rf⟩
    have hl := lv_entry ([.ref (ad 0), .int v]) (n := 3) (Nat.le_of_ble_eq_true rfl)
    rw [lg_entry_eq]
    generalize (lg_sl ([.ref (ad 0), .int v]) ++ List.replicate (3 - (lg_sl ([.ref (ad 0), .int v])).length) Slot.unset).toArray = ls at hl ⊢
    have hl : lv_has ls 3 [(0, .ref (ad 0)), (1, .int v)] := hl
    refine lv_aload_n hx hb dX0_begin_0 rfl (lv_at hl 0 rfl) ?_
    refine sp_get0 (v := .int (nI rdy)) F hK hI.1 rfl 7 (by decide) q29 rfl rfl dX0_begin_1 ?_
    refine sp_ife (tgt := 16) hx hb (by omega) dX0_begin_4 (by decide) (fun d1 => ?_) (fun d1 => ?_)
    · refine lv_iconst (v := nI 0) hx hb dX0_begin_16 kc_0 ?_
      exact W.zret hx hb hr rfl (fun t ht hW => ⟨⟨_, (sg_f7 lo hi rl rh rt tl th, sg_g8 (nI rdy) ra su po (nI q) li (nI g) ta), rfl, by rw [hf]; exact ⟨rfl, rfl, rfl, rfl, rfl, c5, c6, c7⟩, by rw [ht]; exact hI.1, va_K.moved hW.alike hK, hI.2.1⟩, hI.2.2.F ht⟩) hI.2.2.2.2 dX0_begin_17
    · refine lv_iload_n hx hb dX0_begin_7 rfl (lv_at hl 1 rfl) ?_
      refine lv_if_lt (tgt := 16) hx hb dX0_begin_8 (by decide) (fun d2 => ?_) (fun d2 => ?_)
      · refine lv_iconst (v := nI 0) hx hb dX0_begin_16 kc_0 ?_
        exact W.zret hx hb hr rfl (fun t ht hW => ⟨⟨_, (sg_f7 lo hi rl rh rt tl th, sg_g8 (nI rdy) ra su po (nI q) li (nI g) ta), rfl, by rw [hf]; exact ⟨rfl, rfl, rfl, rfl, rfl, c5, c6, c7⟩, by rw [ht]; exact hI.1, va_K.moved hW.alike hK, hI.2.1⟩, hI.2.2.F ht⟩) hI.2.2.2.2 dX0_begin_17
      · refine lv_iload_n hx hb dX0_begin_11 rfl (lv_at hl 1 rfl) ?_
        refine lv_iconst (v := nI 1) hx hb dX0_begin_12 kc_1 ?_
        refine lv_icmp_le (tgt := 18) hx hb dX0_begin_13 (by decide) (fun d3 => ?_) (fun d3 => ?_)
        · exact absurd ⟨d1, d2, d3⟩ hok
        · refine lv_iconst (v := nI 0) hx hb dX0_begin_16 kc_0 ?_
          exact W.zret hx hb hr rfl (fun t ht hW => ⟨⟨_, (sg_f7 lo hi rl rh rt tl th, sg_g8 (nI rdy) ra su po (nI q) li (nI g) ta), rfl, by rw [hf]; exact ⟨rfl, rfl, rfl, rfl, rfl, c5, c6, c7⟩, by rw [ht]; exact hI.1, va_K.moved hW.alike hK, hI.2.1⟩, hI.2.2.F ht⟩) hI.2.2.2.2 dX0_begin_17
set_option maxHeartbeats 4000000 in
set_option maxRecDepth 100000 in
/-- absorb -/
theorem met_absorb (l : Launch) (D : va_G) (ad : Nat → Nat) (d : ClassId) (sz : Nat) (lo hi rl rh rt tl th : Nat → Int32) (rd ra su po pp li gi ta : Int32) (rdy q w P g : Nat) (tk : Int32) (S : Nat → BitVec 64) (hC : sg_CR (rdy, q, w, P, g, tk, S) lo hi rl rh rt rd ra su po pp li gi ta) (n0 : Nat) (hn0 : n0 < 2 ^ 30) (hAI : sg_AI n0 (rdy, q, w, P, g, tk, S)) (v : Int32) : Met l yX0_absorb (ws_ yX0_absorb cX0_absorb 2 (some .boolean)) { frames := 3, cells := 0, slots := 0, locals := 71 } (va_Pc [.ref (ad 0), .int v] (sp_pre D [(d, .int)] sz (spW ad d lo hi rl rh rt tl th rd ra su po pp li gi ta))) (va_Qi (fun (r : Int32) (x : (Nat → Nat → Int32) × (Nat → Int32)) => r = (sg_absorb (rdy, q, w, P, g, tk, S) v).1 ∧ sg_CR (sg_absorb (rdy, q, w, P, g, tk, S) v).2 (x.1 0) (x.1 1) (x.1 2) (x.1 3) (x.1 4) (x.2 0) (x.2 1) (x.2 2) (x.2 3) (x.2 4) (x.2 5) (x.2 6) (x.2 7)) (sp_end D [(d, .int)] (va_A (spW ad d lo hi rl rh rt tl th rd ra su po pp li gi ta) sz) (fun x : (Nat → Nat → Int32) × (Nat → Int32) => spW ad d (x.1 0) (x.1 1) (x.1 2) (x.1 3) (x.1 4) (x.1 5) (x.1 6) (x.2 0) (x.2 1) (x.2 2) (x.2 3) (x.2 4) (x.2 5) (x.2 6) (x.2 7))) (va_A (spW ad d lo hi rl rh rt tl th rd ra su po pp li gi ta) sz)) 0 0 (va_A (spW ad d lo hi rl rh rt tl th rd ra su po pp li gi ta) sz) := by
  obtain ⟨c1, c2, c3, c4, c5, c6, c7⟩ := hC
  subst c1
  subst c2
  subst c3
  subst c4
  obtain ⟨a1, a2, a3, a4, a5, a6, a7, a8⟩ := hAI
  by_cases hok : q = 1 ∧ ¬ v < 0 ∧ v ≤ nI 255
  · obtain ⟨b, hb5, rfl⟩ := nI_of2 (M := nI 255) (n := 255) (by decide) hok.2.1 hok.2.2
    obtain ⟨rfl, -⟩ := id hok
    have hro : rdy = 1 := a4 (by omega)
    obtain ⟨k1, k2, k3, k4, hS⟩ := c7 (by omega)
    subst k1
    subst k2
    subst k3
    subst k4
    have hT := c6 hro
    have hrt := sg_rate_in w
    have hsf := sg_suf_in w
    obtain ⟨-, hPr⟩ := a6 rfl
    refine Met.ofW (cc := cX0_absorb) (maxL := 2) (ret := (some .boolean)) (by decide) rfl ?_
    intro p e s m args below meth c s₁ B hml hv
    obtain ⟨rfl, hsz, hPw, hK, hD0⟩ := hv
    subst hsz
    have hts := atoms_spec (ws := ws_ yX0_absorb cX0_absorb 2 (some .boolean)) B.pre
    have F : CallFix p m c cX0_absorb 2 s ([.ref (ad 0), .int (nI b)] : List Value).toArray lw_all RX0 := ⟨B.exec, B.bytes, hml, findClass_of_methodNamed B.named, fun w h => hts w (List.mem_cons_of_mem _ h)⟩
    have hx := F.1
    have hb := F.2.1
    have hr := B.returns
    have hlocks := B.notSynchronized
    have hD := hD0.self (sz := s.heap.size)
    generalize hAe : va_A (spW ad d lo hi rl rh rt tl th (nI rdy) (nI (sg_rate w)) (nI (sg_suf w)) (nI P) (nI 1) (sg_lim w) (nI g) ta) s.heap.size = A at hD ⊢
    have hA : ∀ q : Nat, s.heap.size ≤ q → A q := fun q h => by rw [← hAe]; exact Or.inr h
    have hI : sp_in D A s.heap (spW ad d lo hi rl rh rt tl th (nI rdy) (nI (sg_rate w)) (nI (sg_suf w)) (nI P) (nI 1) (sg_lim w) (nI g) ta) s.heap [] := ⟨hPw, hD, va_S.rf⟩
    have hl := lv_entry ([.ref (ad 0), .int (nI b)]) (n := 2) (Nat.le_of_ble_eq_true rfl)
    rw [lg_entry_eq]
    generalize (lg_sl ([.ref (ad 0), .int (nI b)]) ++ List.replicate (2 - (lg_sl ([.ref (ad 0), .int (nI b)])).length) Slot.unset).toArray = ls at hl ⊢
    have hl : lv_has ls 2 [(0, .ref (ad 0)), (1, .int (nI b))] := hl
    have hR : 2 + 1 ≤ (headSpec (ws_ yX0_absorb cX0_absorb 2 (some .boolean)) { frames := 3, cells := 0, slots := 0, locals := 71 }).room.frames ∧ 8 + (2 + 11) + 50 ≤ (headSpec (ws_ yX0_absorb cX0_absorb 2 (some .boolean)) { frames := 3, cells := 0, slots := 0, locals := 71 }).room.locals := ⟨Nat.le_of_ble_eq_true rfl, Nat.le_of_ble_eq_true rfl⟩
    have hRp : 0 + 1 ≤ (headSpec (ws_ yX0_absorb cX0_absorb 2 (some .boolean)) { frames := 3, cells := 0, slots := 0, locals := 71 }).room.frames ∧ 8 + (4 + 11) + 0 ≤ (headSpec (ws_ yX0_absorb cX0_absorb 2 (some .boolean)) { frames := 3, cells := 0, slots := 0, locals := 71 }).room.locals := ⟨Nat.le_of_ble_eq_true rfl, Nat.le_of_ble_eq_true rfl⟩
    refine lv_aload_n hx hb dX0_absorb_0 rfl (lv_at hl 0 rfl) ?_
    refine sp_get0 (v := .int (nI 1)) F hK hI.1 rfl 11 (by decide) q33 rfl rfl dX0_absorb_1 ?_
    refine lv_iconst (v := nI 1) hx hb dX0_absorb_4 kc_1 ?_
    refine sp_ne (tgt := 19) hx hb (by omega) (by omega)  dX0_absorb_5 (by decide) (fun d1 => ?_) (fun d1 => ?_)
    · exact absurd rfl d1
    · refine lv_iload_n hx hb dX0_absorb_8 rfl (lv_at hl 1 rfl) ?_
      refine lv_if_lt (tgt := 19) hx hb dX0_absorb_9 (by decide) (fun d2 => ?_) (fun d2 => ?_)
      · exact absurd d2 (nI_pos (by omega))
      · refine lv_iload_n hx hb dX0_absorb_12 rfl (lv_at hl 1 rfl) ?_
        refine lv_sipush (v := nI 255) hx hb dX0_absorb_13 ks_255 ?_
        refine sp_le (tgt := 21) hx hb (by omega) (by omega)  dX0_absorb_16 (by decide) (fun d3 => ?_) (fun d3 => ?_)
        · refine lv_aload_n hx hb dX0_absorb_21 rfl (lv_at hl 0 rfl) ?_
          refine lv_aload_n hx hb dX0_absorb_22 rfl (lv_at hl 0 rfl) ?_
          refine sp_get0 (v := .int (nI P)) F hK hI.1 rfl 10 (by decide) q32 rfl rfl dX0_absorb_23 ?_
          refine lv_iload_n hx hb dX0_absorb_26 rfl (lv_at hl 1 rfl) ?_
          refine sp_callV (ci := 0) 2 F (met_put l D ad d _ lo hi rl rh rt tl th (nI rdy) (nI (sg_rate w)) (nI (sg_suf w)) (nI P) (nI 1) (sg_lim w) (nI g) ta S P b (by omega) (by omega) hS) (lw_V q81 q83 qs0 q12 q84) rfl rfl (by decide +kernel) hRp hK hI hA rfl rfl rfl hl.1 rfl (Nat.le_of_ble_eq_true rfl) dX0_absorb_27 (fun x1 H locs hx1 hI => ?_)
          have hI : sp_in D A _ (spW ad d (x1 0) (x1 1) rl rh rt tl th (nI rdy) (nI (sg_rate w)) (nI (sg_suf w)) (nI P) (nI 1) (sg_lim w) (nI g) ta) H locs := hI
          refine lv_aload_n hx hb dX0_absorb_30 rfl (lv_at hl 0 rfl) ?_
          refine lv_dup hx hb dX0_absorb_31 rfl ?_
          refine sp_get0 (v := .int (nI P)) F hK hI.1 rfl 10 (by decide) q32 rfl rfl dX0_absorb_32 ?_
          refine lv_iconst (v := nI 1) hx hb dX0_absorb_35 kc_1 ?_
          refine sp_iadd (z := P + 1) hx hb rfl dX0_absorb_36 ?_
          refine sp_put0 (v := .int (nI (P + 1))) (ty := .int) F hK hI rfl 10 (by decide) q32 rfl rfl (by decide +kernel) rfl rfl (Nat.le_of_ble_eq_true rfl) dX0_absorb_37 (fun H locs hI => ?_)
          have hI : sp_in D A _ (spW ad d (x1 0) (x1 1) rl rh rt tl th (nI rdy) (nI (sg_rate w)) (nI (sg_suf w)) (nI (P + 1)) (nI 1) (sg_lim w) (nI g) ta) H locs := hI
          refine lv_aload_n hx hb dX0_absorb_40 rfl (lv_at hl 0 rfl) ?_
          refine lv_dup hx hb dX0_absorb_41 rfl ?_
          refine sp_get0 (v := .int ta) F hK hI.1 rfl 14 (by decide) q36 rfl rfl dX0_absorb_42 ?_
          refine lv_iconst (v := nI 1) hx hb dX0_absorb_45 kc_1 ?_
          refine lv_iadd hx hb dX0_absorb_46 ?_
          refine sp_put0 (v := .int (ta + (nI 1))) (ty := .int) F hK hI rfl 14 (by decide) q36 rfl rfl (by decide +kernel) rfl rfl (Nat.le_of_ble_eq_true rfl) dX0_absorb_47 (fun H locs hI => ?_)
          have hI : sp_in D A _ (spW ad d (x1 0) (x1 1) rl rh rt tl th (nI rdy) (nI (sg_rate w)) (nI (sg_suf w)) (nI (P + 1)) (nI 1) (sg_lim w) (nI g) (ta + (nI 1))) H locs := hI
          refine lv_aload_n hx hb dX0_absorb_50 rfl (lv_at hl 0 rfl) ?_
          refine sp_get0 (v := .int (nI (P + 1))) F hK hI.1 rfl 10 (by decide) q32 rfl rfl dX0_absorb_51 ?_
          refine lv_aload_n hx hb dX0_absorb_54 rfl (lv_at hl 0 rfl) ?_
          refine sp_get0 (v := .int (nI (sg_rate w))) F hK hI.1 rfl 8 (by decide) q30 rfl rfl dX0_absorb_55 ?_
          refine sp_ne (tgt := 70) hx hb (by omega) (by omega)  dX0_absorb_58 (by decide) (fun d4 => ?_) (fun d4 => ?_)
          · refine lv_iconst (v := nI 1) hx hb dX0_absorb_70 kc_1 ?_
            have hf : sg_absorb (rdy, 1, w, P, g, ta, S) (nI b) = (nI 1, (rdy, 1, w, P + 1, g, ta + nI 1, sg_put S P b)) := by rw [sg_absorb, if_pos hok, if_neg d4, nI_clamp (by omega)]
            exact W.zret hx hb hr rfl (fun t ht hW => ⟨⟨_, (sg_f7 (x1 0) (x1 1) rl rh rt tl th, sg_g8 (nI rdy) (nI (sg_rate w)) (nI (sg_suf w)) (nI (P + 1)) (nI 1) (sg_lim w) (nI g) (ta + (nI 1))), rfl, by rw [hf]; exact ⟨rfl, rfl, rfl, rfl, rfl, c5, c6, fun _ => ⟨rfl, rfl, rfl, rfl, hx1⟩⟩, by rw [ht]; exact hI.1, va_K.moved hW.alike hK, hI.2.1⟩, hI.2.2.F ht⟩) hI.2.2.2.2 dX0_absorb_71
          · refine lv_aload_n hx hb dX0_absorb_61 rfl (lv_at hl 0 rfl) ?_
            refine sp_callV (ci := 0) 0 F (met_permute l D ad d _ (x1 0) (x1 1) rl rh rt tl th (nI rdy) (nI (sg_rate w)) (nI (sg_suf w)) (nI (P + 1)) (nI 1) (sg_lim w) (nI g) (ta + (nI 1)) (sg_put S P b) hx1 hT) (lw_V q85 q87 qs1 q12 q88) rfl rfl (by decide +kernel) hR hK hI hA rfl rfl rfl hl.1 rfl (Nat.le_of_ble_eq_true rfl) dX0_absorb_62 (fun x2 H locs hx2 hI => ?_)
            have hI : sp_in D A _ (spW ad d (x2 0) (x2 1) rl rh rt (x2 2) (x2 3) (nI rdy) (nI (sg_rate w)) (nI (sg_suf w)) (nI (P + 1)) (nI 1) (sg_lim w) (nI g) (ta + (nI 1))) H locs := hI
            refine lv_aload_n hx hb dX0_absorb_65 rfl (lv_at hl 0 rfl) ?_
            refine lv_iconst (v := nI 0) hx hb dX0_absorb_66 kc_0 ?_
            refine sp_put0 (v := .int (nI 0)) (ty := .int) F hK hI rfl 10 (by decide) q32 rfl rfl (by decide +kernel) rfl rfl (Nat.le_of_ble_eq_true rfl) dX0_absorb_67 (fun H locs hI => ?_)
            have hI : sp_in D A _ (spW ad d (x2 0) (x2 1) rl rh rt (x2 2) (x2 3) (nI rdy) (nI (sg_rate w)) (nI (sg_suf w)) (nI 0) (nI 1) (sg_lim w) (nI g) (ta + (nI 1))) H locs := hI
            refine lv_iconst (v := nI 1) hx hb dX0_absorb_70 kc_1 ?_
            have hf : sg_absorb (rdy, 1, w, P, g, ta, S) (nI b) = (nI 1, (rdy, 1, w, 0, g, ta + nI 1, sg_P (sg_put S P b))) := by rw [sg_absorb, if_pos hok, if_pos d4, nI_clamp (by omega)]
            exact W.zret hx hb hr rfl (fun t ht hW => ⟨⟨_, (sg_f7 (x2 0) (x2 1) rl rh rt (x2 2) (x2 3), sg_g8 (nI rdy) (nI (sg_rate w)) (nI (sg_suf w)) (nI 0) (nI 1) (sg_lim w) (nI g) (ta + (nI 1))), rfl, by rw [hf]; exact ⟨rfl, rfl, rfl, rfl, rfl, c5, c6, fun _ => ⟨rfl, rfl, rfl, rfl, hx2⟩⟩, by rw [ht]; exact hI.1, va_K.moved hW.alike hK, hI.2.1⟩, hI.2.2.F ht⟩) hI.2.2.2.2 dX0_absorb_71
        · exact absurd d3 (by omega)
  · have hf : sg_absorb (rdy, q, w, P, g, ta, S) v = (nI 0, (rdy, q, w, P, g, ta, S)) := by rw [sg_absorb, if_neg hok]
    refine Met.ofW (cc := cX0_absorb) (maxL := 2) (ret := (some .boolean)) (by decide) rfl ?_
    intro p e s m args below meth c s₁ B hml hv
    obtain ⟨rfl, hsz, hPw, hK, hD0⟩ := hv
    subst hsz
    have hts := atoms_spec (ws := ws_ yX0_absorb cX0_absorb 2 (some .boolean)) B.pre
    have F : CallFix p m c cX0_absorb 2 s ([.ref (ad 0), .int v] : List Value).toArray lw_all RX0 := ⟨B.exec, B.bytes, hml, findClass_of_methodNamed B.named, fun w h => hts w (List.mem_cons_of_mem _ h)⟩
    have hx := F.1
    have hb := F.2.1
    have hr := B.returns
    have hlocks := B.notSynchronized
    have hD := hD0.self (sz := s.heap.size)
    generalize hAe : va_A (spW ad d lo hi rl rh rt tl th (nI rdy) ra su po (nI q) li (nI g) ta) s.heap.size = A at hD ⊢
    have hA : ∀ q : Nat, s.heap.size ≤ q → A q := fun q h => by rw [← hAe]; exact Or.inr h
    have hI : sp_in D A s.heap (spW ad d lo hi rl rh rt tl th (nI rdy) ra su po (nI q) li (nI g) ta) s.heap [] := ⟨hPw, hD, va_S.rf⟩
    have hl := lv_entry ([.ref (ad 0), .int v]) (n := 2) (Nat.le_of_ble_eq_true rfl)
    rw [lg_entry_eq]
    generalize (lg_sl ([.ref (ad 0), .int v]) ++ List.replicate (2 - (lg_sl ([.ref (ad 0), .int v])).length) Slot.unset).toArray = ls at hl ⊢
    have hl : lv_has ls 2 [(0, .ref (ad 0)), (1, .int v)] := hl
    refine lv_aload_n hx hb dX0_absorb_0 rfl (lv_at hl 0 rfl) ?_
    refine sp_get0 (v := .int (nI q)) F hK hI.1 rfl 11 (by decide) q33 rfl rfl dX0_absorb_1 ?_
    refine lv_iconst (v := nI 1) hx hb dX0_absorb_4 kc_1 ?_
    refine sp_ne (tgt := 19) hx hb (by omega) (by omega)  dX0_absorb_5 (by decide) (fun d1 => ?_) (fun d1 => ?_)
    · refine lv_iconst (v := nI 0) hx hb dX0_absorb_19 kc_0 ?_
      exact W.zret hx hb hr rfl (fun t ht hW => ⟨⟨_, (sg_f7 lo hi rl rh rt tl th, sg_g8 (nI rdy) ra su po (nI q) li (nI g) ta), rfl, by rw [hf]; exact ⟨rfl, rfl, rfl, rfl, rfl, c5, c6, c7⟩, by rw [ht]; exact hI.1, va_K.moved hW.alike hK, hI.2.1⟩, hI.2.2.F ht⟩) hI.2.2.2.2 dX0_absorb_20
    · refine lv_iload_n hx hb dX0_absorb_8 rfl (lv_at hl 1 rfl) ?_
      refine lv_if_lt (tgt := 19) hx hb dX0_absorb_9 (by decide) (fun d2 => ?_) (fun d2 => ?_)
      · refine lv_iconst (v := nI 0) hx hb dX0_absorb_19 kc_0 ?_
        exact W.zret hx hb hr rfl (fun t ht hW => ⟨⟨_, (sg_f7 lo hi rl rh rt tl th, sg_g8 (nI rdy) ra su po (nI q) li (nI g) ta), rfl, by rw [hf]; exact ⟨rfl, rfl, rfl, rfl, rfl, c5, c6, c7⟩, by rw [ht]; exact hI.1, va_K.moved hW.alike hK, hI.2.1⟩, hI.2.2.F ht⟩) hI.2.2.2.2 dX0_absorb_20
      · refine lv_iload_n hx hb dX0_absorb_12 rfl (lv_at hl 1 rfl) ?_
        refine lv_sipush (v := nI 255) hx hb dX0_absorb_13 ks_255 ?_
        refine lv_icmp_le (tgt := 21) hx hb dX0_absorb_16 (by decide) (fun d3 => ?_) (fun d3 => ?_)
        · exact absurd ⟨d1, d2, d3⟩ hok
        · refine lv_iconst (v := nI 0) hx hb dX0_absorb_19 kc_0 ?_
          exact W.zret hx hb hr rfl (fun t ht hW => ⟨⟨_, (sg_f7 lo hi rl rh rt tl th, sg_g8 (nI rdy) ra su po (nI q) li (nI g) ta), rfl, by rw [hf]; exact ⟨rfl, rfl, rfl, rfl, rfl, c5, c6, c7⟩, by rw [ht]; exact hI.1, va_K.moved hW.alike hK, hI.2.1⟩, hI.2.2.F ht⟩) hI.2.2.2.2 dX0_absorb_20
set_option maxHeartbeats 4000000 in
set_option maxRecDepth 100000 in
/-- squeeze -/
theorem met_squeeze (l : Launch) (D : va_G) (ad : Nat → Nat) (d : ClassId) (sz : Nat) (lo hi rl rh rt tl th : Nat → Int32) (rd ra su po pp li gi ta : Int32) (rdy q w P g : Nat) (tk : Int32) (S : Nat → BitVec 64) (hC : sg_CR (rdy, q, w, P, g, tk, S) lo hi rl rh rt rd ra su po pp li gi ta) (n0 : Nat) (hn0 : n0 < 2 ^ 30) (hAI : sg_AI n0 (rdy, q, w, P, g, tk, S)) : Met l yX0_squeeze (ws_ yX0_squeeze cX0_squeeze 2 (some .int)) { frames := 3, cells := 0, slots := 0, locals := 71 } (va_Pc [.ref (ad 0)] (sp_pre D [(d, .int)] sz (spW ad d lo hi rl rh rt tl th rd ra su po pp li gi ta))) (va_Qi (fun (r : Int32) (x : (Nat → Nat → Int32) × (Nat → Int32)) => r = (sg_squeeze (rdy, q, w, P, g, tk, S)).1 ∧ sg_CR (sg_squeeze (rdy, q, w, P, g, tk, S)).2 (x.1 0) (x.1 1) (x.1 2) (x.1 3) (x.1 4) (x.2 0) (x.2 1) (x.2 2) (x.2 3) (x.2 4) (x.2 5) (x.2 6) (x.2 7)) (sp_end D [(d, .int)] (va_A (spW ad d lo hi rl rh rt tl th rd ra su po pp li gi ta) sz) (fun x : (Nat → Nat → Int32) × (Nat → Int32) => spW ad d (x.1 0) (x.1 1) (x.1 2) (x.1 3) (x.1 4) (x.1 5) (x.1 6) (x.2 0) (x.2 1) (x.2 2) (x.2 3) (x.2 4) (x.2 5) (x.2 6) (x.2 7))) (va_A (spW ad d lo hi rl rh rt tl th rd ra su po pp li gi ta) sz)) 0 0 (va_A (spW ad d lo hi rl rh rt tl th rd ra su po pp li gi ta) sz) := by
  obtain ⟨c1, c2, c3, c4, c5, c6, c7⟩ := hC
  subst c1
  subst c2
  subst c3
  subst c4
  obtain ⟨a1, a2, a3, a4, a5, a6, a7, a8⟩ := hAI
  rcases (show q = 0 ∨ q = 1 ∨ q = 2 by omega) with rfl | rfl | rfl
  · have hf : sg_squeeze (rdy, 0, w, P, g, ta, S) = (-1, (rdy, 0, w, P, g, ta, S)) := rfl
    refine Met.ofW (cc := cX0_squeeze) (maxL := 2) (ret := (some .int)) (by decide) rfl ?_
    intro p e s m args below meth c s₁ B hml hv
    obtain ⟨rfl, hsz, hPw, hK, hD0⟩ := hv
    subst hsz
    have hts := atoms_spec (ws := ws_ yX0_squeeze cX0_squeeze 2 (some .int)) B.pre
    have F : CallFix p m c cX0_squeeze 2 s ([.ref (ad 0)] : List Value).toArray lw_all RX0 := ⟨B.exec, B.bytes, hml, findClass_of_methodNamed B.named, fun w h => hts w (List.mem_cons_of_mem _ h)⟩
    have hx := F.1
    have hb := F.2.1
    have hr := B.returns
    have hlocks := B.notSynchronized
    have hD := hD0.self (sz := s.heap.size)
    generalize hAe : va_A (spW ad d lo hi rl rh rt tl th (nI rdy) ra su po (nI 0) li (nI g) ta) s.heap.size = A at hD ⊢
    have hA : ∀ q : Nat, s.heap.size ≤ q → A q := fun q h => by rw [← hAe]; exact Or.inr h
    have hI : sp_in D A s.heap (spW ad d lo hi rl rh rt tl th (nI rdy) ra su po (nI 0) li (nI g) ta) s.heap [] := ⟨hPw, hD, va_S.rf⟩
    have hl := lv_entry ([.ref (ad 0)]) (n := 2) (Nat.le_of_ble_eq_true rfl)
    rw [lg_entry_eq]
    generalize (lg_sl ([.ref (ad 0)]) ++ List.replicate (2 - (lg_sl ([.ref (ad 0)])).length) Slot.unset).toArray = ls at hl ⊢
    have hl : lv_has ls 2 [(0, .ref (ad 0))] := hl
    refine lv_aload_n hx hb dX0_squeeze_0 rfl (lv_at hl 0 rfl) ?_
    refine sp_get0 (v := .int (nI 0)) F hK hI.1 rfl 11 (by decide) q33 rfl rfl dX0_squeeze_1 ?_
    refine sp_ifn (tgt := 9) hx hb (by omega) dX0_squeeze_4 (by decide) (fun d1 => ?_) (fun d1 => ?_)
    · exact absurd rfl d1
    · refine lv_iconst (v := -1) hx hb dX0_squeeze_7 kc_m1 ?_
      exact W.iret hx hb hr (fun t ht hW => ⟨⟨_, (sg_f7 lo hi rl rh rt tl th, sg_g8 (nI rdy) ra su po (nI 0) li (nI g) ta), rfl, by rw [hf]; exact ⟨rfl, rfl, rfl, rfl, rfl, c5, c6, c7⟩, by rw [ht]; exact hI.1, va_K.moved hW.alike hK, hI.2.1⟩, hI.2.2.F ht⟩) hI.2.2.2.2 dX0_squeeze_8
  · obtain ⟨hg0, hPr⟩ := a6 rfl
    subst hg0
    have hro : rdy = 1 := a4 (by omega)
    obtain ⟨k1, k2, k3, k4, hS⟩ := c7 (by omega)
    subst k1
    subst k2
    subst k3
    subst k4
    have hT := c6 hro
    have hrt := sg_rate_in w
    have hsf := sg_suf_in w
    have hf : sg_squeeze (rdy, 1, w, P, 0, ta, S) = (nI (sg_at (sg_pad w P S) 0), (rdy, 2, w, 1, 1, ta, sg_pad w P S)) := rfl
    refine Met.ofW (cc := cX0_squeeze) (maxL := 2) (ret := (some .int)) (by decide) rfl ?_
    intro p e s m args below meth c s₁ B hml hv
    obtain ⟨rfl, hsz, hPw, hK, hD0⟩ := hv
    subst hsz
    have hts := atoms_spec (ws := ws_ yX0_squeeze cX0_squeeze 2 (some .int)) B.pre
    have F : CallFix p m c cX0_squeeze 2 s ([.ref (ad 0)] : List Value).toArray lw_all RX0 := ⟨B.exec, B.bytes, hml, findClass_of_methodNamed B.named, fun w h => hts w (List.mem_cons_of_mem _ h)⟩
    have hx := F.1
    have hb := F.2.1
    have hr := B.returns
    have hlocks := B.notSynchronized
    have hD := hD0.self (sz := s.heap.size)
    generalize hAe : va_A (spW ad d lo hi rl rh rt tl th (nI rdy) (nI (sg_rate w)) (nI (sg_suf w)) (nI P) (nI 1) (sg_lim w) (nI 0) ta) s.heap.size = A at hD ⊢
    have hA : ∀ q : Nat, s.heap.size ≤ q → A q := fun q h => by rw [← hAe]; exact Or.inr h
    have hI : sp_in D A s.heap (spW ad d lo hi rl rh rt tl th (nI rdy) (nI (sg_rate w)) (nI (sg_suf w)) (nI P) (nI 1) (sg_lim w) (nI 0) ta) s.heap [] := ⟨hPw, hD, va_S.rf⟩
    have hl := lv_entry ([.ref (ad 0)]) (n := 2) (Nat.le_of_ble_eq_true rfl)
    rw [lg_entry_eq]
    generalize (lg_sl ([.ref (ad 0)]) ++ List.replicate (2 - (lg_sl ([.ref (ad 0)])).length) Slot.unset).toArray = ls at hl ⊢
    have hl : lv_has ls 2 [(0, .ref (ad 0))] := hl
    have hR : 2 + 1 ≤ (headSpec (ws_ yX0_squeeze cX0_squeeze 2 (some .int)) { frames := 3, cells := 0, slots := 0, locals := 71 }).room.frames ∧ 8 + (2 + 11) + 50 ≤ (headSpec (ws_ yX0_squeeze cX0_squeeze 2 (some .int)) { frames := 3, cells := 0, slots := 0, locals := 71 }).room.locals := ⟨Nat.le_of_ble_eq_true rfl, Nat.le_of_ble_eq_true rfl⟩
    have hRp : 0 + 1 ≤ (headSpec (ws_ yX0_squeeze cX0_squeeze 2 (some .int)) { frames := 3, cells := 0, slots := 0, locals := 71 }).room.frames ∧ 8 + (4 + 11) + 0 ≤ (headSpec (ws_ yX0_squeeze cX0_squeeze 2 (some .int)) { frames := 3, cells := 0, slots := 0, locals := 71 }).room.locals := ⟨Nat.le_of_ble_eq_true rfl, Nat.le_of_ble_eq_true rfl⟩
    have hRa : 0 + 1 ≤ (headSpec (ws_ yX0_squeeze cX0_squeeze 2 (some .int)) { frames := 3, cells := 0, slots := 0, locals := 71 }).room.frames ∧ 8 + (2 + 11) + 0 ≤ (headSpec (ws_ yX0_squeeze cX0_squeeze 2 (some .int)) { frames := 3, cells := 0, slots := 0, locals := 71 }).room.locals := ⟨Nat.le_of_ble_eq_true rfl, Nat.le_of_ble_eq_true rfl⟩
    refine lv_aload_n hx hb dX0_squeeze_0 rfl (lv_at hl 0 rfl) ?_
    refine sp_get0 (v := .int (nI 1)) F hK hI.1 rfl 11 (by decide) q33 rfl rfl dX0_squeeze_1 ?_
    refine sp_ifn (tgt := 9) hx hb (by omega) dX0_squeeze_4 (by decide) (fun d1 => ?_) (fun d1 => ?_)
    · refine lv_aload_n hx hb dX0_squeeze_9 rfl (lv_at hl 0 rfl) ?_
      refine sp_get0 (v := .int (nI 1)) F hK hI.1 rfl 11 (by decide) q33 rfl rfl dX0_squeeze_10 ?_
      refine lv_iconst (v := nI 1) hx hb dX0_squeeze_13 kc_1 ?_
      refine sp_ne (tgt := 56) hx hb (by omega) (by omega)  dX0_squeeze_14 (by decide) (fun d2 => ?_) (fun d2 => ?_)
      · exact absurd rfl d2
      · refine lv_aload_n hx hb dX0_squeeze_17 rfl (lv_at hl 0 rfl) ?_
        refine lv_aload_n hx hb dX0_squeeze_18 rfl (lv_at hl 0 rfl) ?_
        refine sp_get0 (v := .int (nI P)) F hK hI.1 rfl 10 (by decide) q32 rfl rfl dX0_squeeze_19 ?_
        refine lv_aload_n hx hb dX0_squeeze_22 rfl (lv_at hl 0 rfl) ?_
        refine sp_get0 (v := .int (nI (sg_suf w))) F hK hI.1 rfl 9 (by decide) q31 rfl rfl dX0_squeeze_23 ?_
        refine sp_callV (ci := 0) 2 F (met_put l D ad d _ lo hi rl rh rt tl th (nI rdy) (nI (sg_rate w)) (nI (sg_suf w)) (nI P) (nI 1) (sg_lim w) (nI 0) ta S P (sg_suf w) (by omega) hsf hS) (lw_V q81 q83 qs0 q12 q84) rfl rfl (by decide +kernel) hRp hK hI hA rfl rfl rfl hl.1 rfl (Nat.le_of_ble_eq_true rfl) dX0_squeeze_26 (fun x1 H locs hx1 hI => ?_)
        have hI : sp_in D A _ (spW ad d (x1 0) (x1 1) rl rh rt tl th (nI rdy) (nI (sg_rate w)) (nI (sg_suf w)) (nI P) (nI 1) (sg_lim w) (nI 0) ta) H locs := hI
        refine lv_aload_n hx hb dX0_squeeze_29 rfl (lv_at hl 0 rfl) ?_
        refine lv_aload_n hx hb dX0_squeeze_30 rfl (lv_at hl 0 rfl) ?_
        refine sp_get0 (v := .int (nI (sg_rate w))) F hK hI.1 rfl 8 (by decide) q30 rfl rfl dX0_squeeze_31 ?_
        refine lv_iconst (v := nI 1) hx hb dX0_squeeze_34 kc_1 ?_
        refine sp_isub (z := (sg_rate w) - 1) hx hb (by omega) rfl dX0_squeeze_35 ?_
        refine lv_sipush (v := nI 128) hx hb dX0_squeeze_36 ks_128 ?_
        refine sp_callV (ci := 0) 2 F (met_put l D ad d _ (x1 0) (x1 1) rl rh rt tl th (nI rdy) (nI (sg_rate w)) (nI (sg_suf w)) (nI P) (nI 1) (sg_lim w) (nI 0) ta (sg_put S P (sg_suf w)) (sg_rate w - 1) 128 (by omega) (by decide) hx1) (lw_V q81 q83 qs0 q12 q84) rfl rfl (by decide +kernel) hRp hK hI hA rfl rfl rfl hl.1 rfl (Nat.le_of_ble_eq_true rfl) dX0_squeeze_39 (fun x2 H locs hx2 hI => ?_)
        have hI : sp_in D A _ (spW ad d (x2 0) (x2 1) rl rh rt tl th (nI rdy) (nI (sg_rate w)) (nI (sg_suf w)) (nI P) (nI 1) (sg_lim w) (nI 0) ta) H locs := hI
        refine lv_aload_n hx hb dX0_squeeze_42 rfl (lv_at hl 0 rfl) ?_
        refine sp_callV (ci := 0) 0 F (met_permute l D ad d _ (x2 0) (x2 1) rl rh rt tl th (nI rdy) (nI (sg_rate w)) (nI (sg_suf w)) (nI P) (nI 1) (sg_lim w) (nI 0) ta (sg_put (sg_put S P (sg_suf w)) (sg_rate w - 1) 128) hx2 hT) (lw_V q85 q87 qs1 q12 q88) rfl rfl (by decide +kernel) hR hK hI hA rfl rfl rfl hl.1 rfl (Nat.le_of_ble_eq_true rfl) dX0_squeeze_43 (fun x3 H locs hx3 hI => ?_)
        have hI : sp_in D A _ (spW ad d (x3 0) (x3 1) rl rh rt (x3 2) (x3 3) (nI rdy) (nI (sg_rate w)) (nI (sg_suf w)) (nI P) (nI 1) (sg_lim w) (nI 0) ta) H locs := hI
        have hx4 : sg_LH (x3 0) (x3 1) (sg_pad w P S) := hx3
        refine lv_aload_n hx hb dX0_squeeze_46 rfl (lv_at hl 0 rfl) ?_
        refine lv_iconst (v := nI 0) hx hb dX0_squeeze_47 kc_0 ?_
        refine sp_put0 (v := .int (nI 0)) (ty := .int) F hK hI rfl 10 (by decide) q32 rfl rfl (by decide +kernel) rfl rfl (Nat.le_of_ble_eq_true rfl) dX0_squeeze_48 (fun H locs hI => ?_)
        have hI : sp_in D A _ (spW ad d (x3 0) (x3 1) rl rh rt (x3 2) (x3 3) (nI rdy) (nI (sg_rate w)) (nI (sg_suf w)) (nI 0) (nI 1) (sg_lim w) (nI 0) ta) H locs := hI
        refine lv_aload_n hx hb dX0_squeeze_51 rfl (lv_at hl 0 rfl) ?_
        refine lv_iconst (v := nI 2) hx hb dX0_squeeze_52 kc_2 ?_
        refine sp_put0 (v := .int (nI 2)) (ty := .int) F hK hI rfl 11 (by decide) q33 rfl rfl (by decide +kernel) rfl rfl (Nat.le_of_ble_eq_true rfl) dX0_squeeze_53 (fun H locs hI => ?_)
        have hI : sp_in D A _ (spW ad d (x3 0) (x3 1) rl rh rt (x3 2) (x3 3) (nI rdy) (nI (sg_rate w)) (nI (sg_suf w)) (nI 0) (nI 2) (sg_lim w) (nI 0) ta) H locs := hI
        refine lv_aload_n hx hb dX0_squeeze_56 rfl (lv_at hl 0 rfl) ?_
        refine sp_get0 (v := .int (nI 0)) F hK hI.1 rfl 13 (by decide) q35 rfl rfl dX0_squeeze_57 ?_
        refine lv_aload_n hx hb dX0_squeeze_60 rfl (lv_at hl 0 rfl) ?_
        refine sp_get0 (v := .int (sg_lim w)) F hK hI.1 rfl 12 (by decide) q34 rfl rfl dX0_squeeze_61 ?_
        refine lv_icmp_ne (tgt := 70) hx hb dX0_squeeze_64 (by decide) (fun d3 => ?_) (fun d3 => ?_)
        · refine lv_aload_n hx hb dX0_squeeze_70 rfl (lv_at hl 0 rfl) ?_
          refine sp_get0 (v := .int (nI 0)) F hK hI.1 rfl 10 (by decide) q32 rfl rfl dX0_squeeze_71 ?_
          refine lv_aload_n hx hb dX0_squeeze_74 rfl (lv_at hl 0 rfl) ?_
          refine sp_get0 (v := .int (nI (sg_rate w))) F hK hI.1 rfl 8 (by decide) q30 rfl rfl dX0_squeeze_75 ?_
          refine sp_ne (tgt := 90) hx hb (by omega) (by omega)  dX0_squeeze_78 (by decide) (fun d4 => ?_) (fun d4 => ?_)
          · refine lv_aload_n hx hb dX0_squeeze_90 rfl (lv_at hl 0 rfl) ?_
            refine lv_aload_n hx hb dX0_squeeze_91 rfl (lv_at hl 0 rfl) ?_
            refine sp_get0 (v := .int (nI 0)) F hK hI.1 rfl 10 (by decide) q32 rfl rfl dX0_squeeze_92 ?_
            refine sp_callVi (ci := 0) 1 F (met_at l D ad d _ (x3 0) (x3 1) rl rh rt (x3 2) (x3 3) (nI rdy) (nI (sg_rate w)) (nI (sg_suf w)) (nI 0) (nI 2) (sg_lim w) (nI 0) ta (sg_pad w P S) 0 (by decide) hx4) (lw_V q108 q110 qs5 q12 q111) rfl rfl (by decide +kernel) hRa hK hI hA rfl rfl rfl hl.1 rfl (Nat.le_of_ble_eq_true rfl) dX0_squeeze_95 (fun r1 _ H locs hr1 hI => ?_)
            have hI : sp_in D A _ (spW ad d (x3 0) (x3 1) rl rh rt (x3 2) (x3 3) (nI rdy) (nI (sg_rate w)) (nI (sg_suf w)) (nI 0) (nI 2) (sg_lim w) (nI 0) ta) H locs := hI
            refine lv_istore_n (lv' := [(1, .int r1), (0, .ref (ad 0))]) hx hb dX0_squeeze_98 rfl hl (by decide) rfl (fun ls hl => ?_)
            refine lv_aload_n hx hb dX0_squeeze_99 rfl (lv_at hl 1 rfl) ?_
            refine lv_dup hx hb dX0_squeeze_100 rfl ?_
            refine sp_get0 (v := .int (nI 0)) F hK hI.1 rfl 10 (by decide) q32 rfl rfl dX0_squeeze_101 ?_
            refine lv_iconst (v := nI 1) hx hb dX0_squeeze_104 kc_1 ?_
            refine sp_iadd (z := 1) hx hb rfl dX0_squeeze_105 ?_
            refine sp_put0 (v := .int (nI 1)) (ty := .int) F hK hI rfl 10 (by decide) q32 rfl rfl (by decide +kernel) rfl rfl (Nat.le_of_ble_eq_true rfl) dX0_squeeze_106 (fun H locs hI => ?_)
            have hI : sp_in D A _ (spW ad d (x3 0) (x3 1) rl rh rt (x3 2) (x3 3) (nI rdy) (nI (sg_rate w)) (nI (sg_suf w)) (nI 1) (nI 2) (sg_lim w) (nI 0) ta) H locs := hI
            refine lv_aload_n hx hb dX0_squeeze_109 rfl (lv_at hl 1 rfl) ?_
            refine lv_dup hx hb dX0_squeeze_110 rfl ?_
            refine sp_get0 (v := .int (nI 0)) F hK hI.1 rfl 13 (by decide) q35 rfl rfl dX0_squeeze_111 ?_
            refine lv_iconst (v := nI 1) hx hb dX0_squeeze_114 kc_1 ?_
            refine sp_iadd (z := 1) hx hb rfl dX0_squeeze_115 ?_
            refine sp_put0 (v := .int (nI 1)) (ty := .int) F hK hI rfl 13 (by decide) q35 rfl rfl (by decide +kernel) rfl rfl (Nat.le_of_ble_eq_true rfl) dX0_squeeze_116 (fun H locs hI => ?_)
            have hI : sp_in D A _ (spW ad d (x3 0) (x3 1) rl rh rt (x3 2) (x3 3) (nI rdy) (nI (sg_rate w)) (nI (sg_suf w)) (nI 1) (nI 2) (sg_lim w) (nI 1) ta) H locs := hI
            refine lv_iload_n hx hb dX0_squeeze_119 rfl (lv_at hl 0 rfl) ?_
            refine sp_topi (y := (nI (sg_at (sg_pad w P S) 0))) hr1 ?_
            exact W.iret hx hb hr (fun t ht hW => ⟨⟨_, (sg_f7 (x3 0) (x3 1) rl rh rt (x3 2) (x3 3), sg_g8 (nI rdy) (nI (sg_rate w)) (nI (sg_suf w)) (nI 1) (nI 2) (sg_lim w) (nI 1) ta), rfl, by rw [hf]; exact ⟨rfl, rfl, rfl, rfl, rfl, c5, c6, fun _ => ⟨rfl, rfl, rfl, rfl, hx4⟩⟩, by rw [ht]; exact hI.1, va_K.moved hW.alike hK, hI.2.1⟩, hI.2.2.F ht⟩) hI.2.2.2.2 dX0_squeeze_120
          · exact absurd d4 (by omega)
        · exact absurd d3 (sg_lim_ne (by omega) (by omega))
    · exact absurd d1 (by decide)
  · obtain ⟨hg1, hPr, hgw⟩ := a7 rfl
    have hro : rdy = 1 := a4 (by omega)
    obtain ⟨k1, k2, k3, k4, hS⟩ := c7 (by omega)
    subst k1
    subst k2
    subst k3
    subst k4
    have hT := c6 hro
    have hrt := sg_rate_in w
    have hsf := sg_suf_in w
    by_cases hlm : w = 0 ∧ g = 32
    · obtain ⟨rfl, rfl⟩ := hlm
      have hf : sg_squeeze (rdy, 2, 0, P, 32, ta, S) = (-2, (rdy, 2, 0, P, 32, ta, S)) := rfl
      refine Met.ofW (cc := cX0_squeeze) (maxL := 2) (ret := (some .int)) (by decide) rfl ?_
      intro p e s m args below meth c s₁ B hml hv
      obtain ⟨rfl, hsz, hPw, hK, hD0⟩ := hv
      subst hsz
      have hts := atoms_spec (ws := ws_ yX0_squeeze cX0_squeeze 2 (some .int)) B.pre
      have F : CallFix p m c cX0_squeeze 2 s ([.ref (ad 0)] : List Value).toArray lw_all RX0 := ⟨B.exec, B.bytes, hml, findClass_of_methodNamed B.named, fun w h => hts w (List.mem_cons_of_mem _ h)⟩
      have hx := F.1
      have hb := F.2.1
      have hr := B.returns
      have hlocks := B.notSynchronized
      have hD := hD0.self (sz := s.heap.size)
      generalize hAe : va_A (spW ad d lo hi rl rh rt tl th (nI rdy) (nI (sg_rate 0)) (nI (sg_suf 0)) (nI P) (nI 2) (sg_lim 0) (nI 32) ta) s.heap.size = A at hD ⊢
      have hA : ∀ q : Nat, s.heap.size ≤ q → A q := fun q h => by rw [← hAe]; exact Or.inr h
      have hI : sp_in D A s.heap (spW ad d lo hi rl rh rt tl th (nI rdy) (nI (sg_rate 0)) (nI (sg_suf 0)) (nI P) (nI 2) (sg_lim 0) (nI 32) ta) s.heap [] := ⟨hPw, hD, va_S.rf⟩
      have hl := lv_entry ([.ref (ad 0)]) (n := 2) (Nat.le_of_ble_eq_true rfl)
      rw [lg_entry_eq]
      generalize (lg_sl ([.ref (ad 0)]) ++ List.replicate (2 - (lg_sl ([.ref (ad 0)])).length) Slot.unset).toArray = ls at hl ⊢
      have hl : lv_has ls 2 [(0, .ref (ad 0))] := hl
      refine lv_aload_n hx hb dX0_squeeze_0 rfl (lv_at hl 0 rfl) ?_
      refine sp_get0 (v := .int (nI 2)) F hK hI.1 rfl 11 (by decide) q33 rfl rfl dX0_squeeze_1 ?_
      refine sp_ifn (tgt := 9) hx hb (by omega) dX0_squeeze_4 (by decide) (fun d1 => ?_) (fun d1 => ?_)
      · refine lv_aload_n hx hb dX0_squeeze_9 rfl (lv_at hl 0 rfl) ?_
        refine sp_get0 (v := .int (nI 2)) F hK hI.1 rfl 11 (by decide) q33 rfl rfl dX0_squeeze_10 ?_
        refine lv_iconst (v := nI 1) hx hb dX0_squeeze_13 kc_1 ?_
        refine sp_ne (tgt := 56) hx hb (by omega) (by omega)  dX0_squeeze_14 (by decide) (fun d2 => ?_) (fun d2 => ?_)
        · refine lv_aload_n hx hb dX0_squeeze_56 rfl (lv_at hl 0 rfl) ?_
          refine sp_get0 (v := .int (nI 32)) F hK hI.1 rfl 13 (by decide) q35 rfl rfl dX0_squeeze_57 ?_
          refine lv_aload_n hx hb dX0_squeeze_60 rfl (lv_at hl 0 rfl) ?_
          refine sp_get0 (v := .int (sg_lim 0)) F hK hI.1 rfl 12 (by decide) q34 rfl rfl dX0_squeeze_61 ?_
          refine lv_icmp_ne (tgt := 70) hx hb dX0_squeeze_64 (by decide) (fun d3 => ?_) (fun d3 => ?_)
          · exact absurd rfl d3
          · refine lv_bipush (v := -2) hx hb dX0_squeeze_67 kb_m2 ?_
            exact W.iret hx hb hr (fun t ht hW => ⟨⟨_, (sg_f7 lo hi rl rh rt tl th, sg_g8 (nI rdy) (nI (sg_rate 0)) (nI (sg_suf 0)) (nI P) (nI 2) (sg_lim 0) (nI 32) ta), rfl, by rw [hf]; exact ⟨rfl, rfl, rfl, rfl, rfl, c5, c6, c7⟩, by rw [ht]; exact hI.1, va_K.moved hW.alike hK, hI.2.1⟩, hI.2.2.F ht⟩) hI.2.2.2.2 dX0_squeeze_69
        · exact absurd d2 (by decide)
      · exact absurd d1 (by decide)
    · have hf0 : sg_squeeze (rdy, 2, w, P, g, ta, S) = if P = sg_rate w then (nI (sg_at (sg_P S) 0), (rdy, 2, w, 1, g + 1, ta, sg_P S)) else (nI (sg_at S P), (rdy, 2, w, P + 1, g + 1, ta, S)) := by rw [sg_squeeze, if_neg (show ¬ (2 : Nat) = 0 by decide), if_neg (show ¬ (2 : Nat) = 1 by decide), if_neg hlm]
      refine Met.ofW (cc := cX0_squeeze) (maxL := 2) (ret := (some .int)) (by decide) rfl ?_
      intro p e s m args below meth c s₁ B hml hv
      obtain ⟨rfl, hsz, hPw, hK, hD0⟩ := hv
      subst hsz
      have hts := atoms_spec (ws := ws_ yX0_squeeze cX0_squeeze 2 (some .int)) B.pre
      have F : CallFix p m c cX0_squeeze 2 s ([.ref (ad 0)] : List Value).toArray lw_all RX0 := ⟨B.exec, B.bytes, hml, findClass_of_methodNamed B.named, fun w h => hts w (List.mem_cons_of_mem _ h)⟩
      have hx := F.1
      have hb := F.2.1
      have hr := B.returns
      have hlocks := B.notSynchronized
      have hD := hD0.self (sz := s.heap.size)
      generalize hAe : va_A (spW ad d lo hi rl rh rt tl th (nI rdy) (nI (sg_rate w)) (nI (sg_suf w)) (nI P) (nI 2) (sg_lim w) (nI g) ta) s.heap.size = A at hD ⊢
      have hA : ∀ q : Nat, s.heap.size ≤ q → A q := fun q h => by rw [← hAe]; exact Or.inr h
      have hI : sp_in D A s.heap (spW ad d lo hi rl rh rt tl th (nI rdy) (nI (sg_rate w)) (nI (sg_suf w)) (nI P) (nI 2) (sg_lim w) (nI g) ta) s.heap [] := ⟨hPw, hD, va_S.rf⟩
      have hl := lv_entry ([.ref (ad 0)]) (n := 2) (Nat.le_of_ble_eq_true rfl)
      rw [lg_entry_eq]
      generalize (lg_sl ([.ref (ad 0)]) ++ List.replicate (2 - (lg_sl ([.ref (ad 0)])).length) Slot.unset).toArray = ls at hl ⊢
      have hl : lv_has ls 2 [(0, .ref (ad 0))] := hl
      have hR : 2 + 1 ≤ (headSpec (ws_ yX0_squeeze cX0_squeeze 2 (some .int)) { frames := 3, cells := 0, slots := 0, locals := 71 }).room.frames ∧ 8 + (2 + 11) + 50 ≤ (headSpec (ws_ yX0_squeeze cX0_squeeze 2 (some .int)) { frames := 3, cells := 0, slots := 0, locals := 71 }).room.locals := ⟨Nat.le_of_ble_eq_true rfl, Nat.le_of_ble_eq_true rfl⟩
      have hRp : 0 + 1 ≤ (headSpec (ws_ yX0_squeeze cX0_squeeze 2 (some .int)) { frames := 3, cells := 0, slots := 0, locals := 71 }).room.frames ∧ 8 + (4 + 11) + 0 ≤ (headSpec (ws_ yX0_squeeze cX0_squeeze 2 (some .int)) { frames := 3, cells := 0, slots := 0, locals := 71 }).room.locals := ⟨Nat.le_of_ble_eq_true rfl, Nat.le_of_ble_eq_true rfl⟩
      have hRa : 0 + 1 ≤ (headSpec (ws_ yX0_squeeze cX0_squeeze 2 (some .int)) { frames := 3, cells := 0, slots := 0, locals := 71 }).room.frames ∧ 8 + (2 + 11) + 0 ≤ (headSpec (ws_ yX0_squeeze cX0_squeeze 2 (some .int)) { frames := 3, cells := 0, slots := 0, locals := 71 }).room.locals := ⟨Nat.le_of_ble_eq_true rfl, Nat.le_of_ble_eq_true rfl⟩
      refine lv_aload_n hx hb dX0_squeeze_0 rfl (lv_at hl 0 rfl) ?_
      refine sp_get0 (v := .int (nI 2)) F hK hI.1 rfl 11 (by decide) q33 rfl rfl dX0_squeeze_1 ?_
      refine sp_ifn (tgt := 9) hx hb (by omega) dX0_squeeze_4 (by decide) (fun d1 => ?_) (fun d1 => ?_)
      · refine lv_aload_n hx hb dX0_squeeze_9 rfl (lv_at hl 0 rfl) ?_
        refine sp_get0 (v := .int (nI 2)) F hK hI.1 rfl 11 (by decide) q33 rfl rfl dX0_squeeze_10 ?_
        refine lv_iconst (v := nI 1) hx hb dX0_squeeze_13 kc_1 ?_
        refine sp_ne (tgt := 56) hx hb (by omega) (by omega)  dX0_squeeze_14 (by decide) (fun d2 => ?_) (fun d2 => ?_)
        · refine lv_aload_n hx hb dX0_squeeze_56 rfl (lv_at hl 0 rfl) ?_
          refine sp_get0 (v := .int (nI g)) F hK hI.1 rfl 13 (by decide) q35 rfl rfl dX0_squeeze_57 ?_
          refine lv_aload_n hx hb dX0_squeeze_60 rfl (lv_at hl 0 rfl) ?_
          refine sp_get0 (v := .int (sg_lim w)) F hK hI.1 rfl 12 (by decide) q34 rfl rfl dX0_squeeze_61 ?_
          refine lv_icmp_ne (tgt := 70) hx hb dX0_squeeze_64 (by decide) (fun d3 => ?_) (fun d3 => ?_)
          · refine lv_aload_n hx hb dX0_squeeze_70 rfl (lv_at hl 0 rfl) ?_
            refine sp_get0 (v := .int (nI P)) F hK hI.1 rfl 10 (by decide) q32 rfl rfl dX0_squeeze_71 ?_
            refine lv_aload_n hx hb dX0_squeeze_74 rfl (lv_at hl 0 rfl) ?_
            refine sp_get0 (v := .int (nI (sg_rate w))) F hK hI.1 rfl 8 (by decide) q30 rfl rfl dX0_squeeze_75 ?_
            refine sp_ne (tgt := 90) hx hb (by omega) (by omega)  dX0_squeeze_78 (by decide) (fun d4 => ?_) (fun d4 => ?_)
            · have hf : sg_squeeze (rdy, 2, w, P, g, ta, S) = (nI (sg_at S P), (rdy, 2, w, P + 1, g + 1, ta, S)) := by rw [hf0, if_neg d4]
              refine lv_aload_n hx hb dX0_squeeze_90 rfl (lv_at hl 0 rfl) ?_
              refine lv_aload_n hx hb dX0_squeeze_91 rfl (lv_at hl 0 rfl) ?_
              refine sp_get0 (v := .int (nI P)) F hK hI.1 rfl 10 (by decide) q32 rfl rfl dX0_squeeze_92 ?_
              refine sp_callVi (ci := 0) 1 F (met_at l D ad d _ lo hi rl rh rt tl th (nI rdy) (nI (sg_rate w)) (nI (sg_suf w)) (nI P) (nI 2) (sg_lim w) (nI g) ta S P (by omega) hS) (lw_V q108 q110 qs5 q12 q111) rfl rfl (by decide +kernel) hRa hK hI hA rfl rfl rfl hl.1 rfl (Nat.le_of_ble_eq_true rfl) dX0_squeeze_95 (fun r1 _ H locs hr1 hI => ?_)
              have hI : sp_in D A _ (spW ad d lo hi rl rh rt tl th (nI rdy) (nI (sg_rate w)) (nI (sg_suf w)) (nI P) (nI 2) (sg_lim w) (nI g) ta) H locs := hI
              refine lv_istore_n (lv' := [(1, .int r1), (0, .ref (ad 0))]) hx hb dX0_squeeze_98 rfl hl (by decide) rfl (fun ls hl => ?_)
              refine lv_aload_n hx hb dX0_squeeze_99 rfl (lv_at hl 1 rfl) ?_
              refine lv_dup hx hb dX0_squeeze_100 rfl ?_
              refine sp_get0 (v := .int (nI P)) F hK hI.1 rfl 10 (by decide) q32 rfl rfl dX0_squeeze_101 ?_
              refine lv_iconst (v := nI 1) hx hb dX0_squeeze_104 kc_1 ?_
              refine sp_iadd (z := P + 1) hx hb rfl dX0_squeeze_105 ?_
              refine sp_put0 (v := .int (nI (P + 1))) (ty := .int) F hK hI rfl 10 (by decide) q32 rfl rfl (by decide +kernel) rfl rfl (Nat.le_of_ble_eq_true rfl) dX0_squeeze_106 (fun H locs hI => ?_)
              have hI : sp_in D A _ (spW ad d lo hi rl rh rt tl th (nI rdy) (nI (sg_rate w)) (nI (sg_suf w)) (nI (P + 1)) (nI 2) (sg_lim w) (nI g) ta) H locs := hI
              refine lv_aload_n hx hb dX0_squeeze_109 rfl (lv_at hl 1 rfl) ?_
              refine lv_dup hx hb dX0_squeeze_110 rfl ?_
              refine sp_get0 (v := .int (nI g)) F hK hI.1 rfl 13 (by decide) q35 rfl rfl dX0_squeeze_111 ?_
              refine lv_iconst (v := nI 1) hx hb dX0_squeeze_114 kc_1 ?_
              refine sp_iadd (z := g + 1) hx hb rfl dX0_squeeze_115 ?_
              refine sp_put0 (v := .int (nI (g + 1))) (ty := .int) F hK hI rfl 13 (by decide) q35 rfl rfl (by decide +kernel) rfl rfl (Nat.le_of_ble_eq_true rfl) dX0_squeeze_116 (fun H locs hI => ?_)
              have hI : sp_in D A _ (spW ad d lo hi rl rh rt tl th (nI rdy) (nI (sg_rate w)) (nI (sg_suf w)) (nI (P + 1)) (nI 2) (sg_lim w) (nI (g + 1)) ta) H locs := hI
              refine lv_iload_n hx hb dX0_squeeze_119 rfl (lv_at hl 0 rfl) ?_
              refine sp_topi (y := (nI (sg_at S P))) hr1 ?_
              exact W.iret hx hb hr (fun t ht hW => ⟨⟨_, (sg_f7 lo hi rl rh rt tl th, sg_g8 (nI rdy) (nI (sg_rate w)) (nI (sg_suf w)) (nI (P + 1)) (nI 2) (sg_lim w) (nI (g + 1)) ta), rfl, by rw [hf]; exact ⟨rfl, rfl, rfl, rfl, rfl, c5, c6, fun _ => ⟨rfl, rfl, rfl, rfl, hS⟩⟩, by rw [ht]; exact hI.1, va_K.moved hW.alike hK, hI.2.1⟩, hI.2.2.F ht⟩) hI.2.2.2.2 dX0_squeeze_120
            · have hf : sg_squeeze (rdy, 2, w, P, g, ta, S) = (nI (sg_at (sg_P S) 0), (rdy, 2, w, 1, g + 1, ta, sg_P S)) := by rw [hf0, if_pos d4]
              refine lv_aload_n hx hb dX0_squeeze_81 rfl (lv_at hl 0 rfl) ?_
              refine sp_callV (ci := 0) 0 F (met_permute l D ad d _ lo hi rl rh rt tl th (nI rdy) (nI (sg_rate w)) (nI (sg_suf w)) (nI P) (nI 2) (sg_lim w) (nI g) ta S hS hT) (lw_V q85 q87 qs1 q12 q88) rfl rfl (by decide +kernel) hR hK hI hA rfl rfl rfl hl.1 rfl (Nat.le_of_ble_eq_true rfl) dX0_squeeze_82 (fun x3 H locs hx3 hI => ?_)
              have hI : sp_in D A _ (spW ad d (x3 0) (x3 1) rl rh rt (x3 2) (x3 3) (nI rdy) (nI (sg_rate w)) (nI (sg_suf w)) (nI P) (nI 2) (sg_lim w) (nI g) ta) H locs := hI
              refine lv_aload_n hx hb dX0_squeeze_85 rfl (lv_at hl 0 rfl) ?_
              refine lv_iconst (v := nI 0) hx hb dX0_squeeze_86 kc_0 ?_
              refine sp_put0 (v := .int (nI 0)) (ty := .int) F hK hI rfl 10 (by decide) q32 rfl rfl (by decide +kernel) rfl rfl (Nat.le_of_ble_eq_true rfl) dX0_squeeze_87 (fun H locs hI => ?_)
              have hI : sp_in D A _ (spW ad d (x3 0) (x3 1) rl rh rt (x3 2) (x3 3) (nI rdy) (nI (sg_rate w)) (nI (sg_suf w)) (nI 0) (nI 2) (sg_lim w) (nI g) ta) H locs := hI
              refine lv_aload_n hx hb dX0_squeeze_90 rfl (lv_at hl 0 rfl) ?_
              refine lv_aload_n hx hb dX0_squeeze_91 rfl (lv_at hl 0 rfl) ?_
              refine sp_get0 (v := .int (nI 0)) F hK hI.1 rfl 10 (by decide) q32 rfl rfl dX0_squeeze_92 ?_
              refine sp_callVi (ci := 0) 1 F (met_at l D ad d _ (x3 0) (x3 1) rl rh rt (x3 2) (x3 3) (nI rdy) (nI (sg_rate w)) (nI (sg_suf w)) (nI 0) (nI 2) (sg_lim w) (nI g) ta (sg_P S) 0 (by decide) hx3) (lw_V q108 q110 qs5 q12 q111) rfl rfl (by decide +kernel) hRa hK hI hA rfl rfl rfl hl.1 rfl (Nat.le_of_ble_eq_true rfl) dX0_squeeze_95 (fun r1 _ H locs hr1 hI => ?_)
              have hI : sp_in D A _ (spW ad d (x3 0) (x3 1) rl rh rt (x3 2) (x3 3) (nI rdy) (nI (sg_rate w)) (nI (sg_suf w)) (nI 0) (nI 2) (sg_lim w) (nI g) ta) H locs := hI
              refine lv_istore_n (lv' := [(1, .int r1), (0, .ref (ad 0))]) hx hb dX0_squeeze_98 rfl hl (by decide) rfl (fun ls hl => ?_)
              refine lv_aload_n hx hb dX0_squeeze_99 rfl (lv_at hl 1 rfl) ?_
              refine lv_dup hx hb dX0_squeeze_100 rfl ?_
              refine sp_get0 (v := .int (nI 0)) F hK hI.1 rfl 10 (by decide) q32 rfl rfl dX0_squeeze_101 ?_
              refine lv_iconst (v := nI 1) hx hb dX0_squeeze_104 kc_1 ?_
              refine sp_iadd (z := 1) hx hb rfl dX0_squeeze_105 ?_
              refine sp_put0 (v := .int (nI 1)) (ty := .int) F hK hI rfl 10 (by decide) q32 rfl rfl (by decide +kernel) rfl rfl (Nat.le_of_ble_eq_true rfl) dX0_squeeze_106 (fun H locs hI => ?_)
              have hI : sp_in D A _ (spW ad d (x3 0) (x3 1) rl rh rt (x3 2) (x3 3) (nI rdy) (nI (sg_rate w)) (nI (sg_suf w)) (nI 1) (nI 2) (sg_lim w) (nI g) ta) H locs := hI
              refine lv_aload_n hx hb dX0_squeeze_109 rfl (lv_at hl 1 rfl) ?_
              refine lv_dup hx hb dX0_squeeze_110 rfl ?_
              refine sp_get0 (v := .int (nI g)) F hK hI.1 rfl 13 (by decide) q35 rfl rfl dX0_squeeze_111 ?_
              refine lv_iconst (v := nI 1) hx hb dX0_squeeze_114 kc_1 ?_
              refine sp_iadd (z := g + 1) hx hb rfl dX0_squeeze_115 ?_
              refine sp_put0 (v := .int (nI (g + 1))) (ty := .int) F hK hI rfl 13 (by decide) q35 rfl rfl (by decide +kernel) rfl rfl (Nat.le_of_ble_eq_true rfl) dX0_squeeze_116 (fun H locs hI => ?_)
              have hI : sp_in D A _ (spW ad d (x3 0) (x3 1) rl rh rt (x3 2) (x3 3) (nI rdy) (nI (sg_rate w)) (nI (sg_suf w)) (nI 1) (nI 2) (sg_lim w) (nI (g + 1)) ta) H locs := hI
              refine lv_iload_n hx hb dX0_squeeze_119 rfl (lv_at hl 0 rfl) ?_
              refine sp_topi (y := (nI (sg_at (sg_P S) 0))) hr1 ?_
              exact W.iret hx hb hr (fun t ht hW => ⟨⟨_, (sg_f7 (x3 0) (x3 1) rl rh rt (x3 2) (x3 3), sg_g8 (nI rdy) (nI (sg_rate w)) (nI (sg_suf w)) (nI 1) (nI 2) (sg_lim w) (nI (g + 1)) ta), rfl, by rw [hf]; exact ⟨rfl, rfl, rfl, rfl, rfl, c5, c6, fun _ => ⟨rfl, rfl, rfl, rfl, hx3⟩⟩, by rw [ht]; exact hI.1, va_K.moved hW.alike hK, hI.2.1⟩, hI.2.2.F ht⟩) hI.2.2.2.2 dX0_squeeze_120
          · exact absurd d3 (sg_lim_ne (by omega) hlm)
        · exact absurd d2 (by decide)
      · exact absurd d1 (by decide)
set_option maxHeartbeats 4000000 in
set_option maxRecDepth 100000 in
/-- lane -/
theorem met_lane (l : Launch) (D : va_G) (ad : Nat → Nat) (d : ClassId) (sz : Nat) (lo hi rl rh rt tl th : Nat → Int32) (rd ra su po pp li gi ta : Int32) (rdy q w P g : Nat) (tk : Int32) (S : Nat → BitVec 64) (hC : sg_CR (rdy, q, w, P, g, tk, S) lo hi rl rh rt rd ra su po pp li gi ta) (n0 : Nat) (hn0 : n0 < 2 ^ 30) (hAI : sg_AI n0 (rdy, q, w, P, g, tk, S)) (i h : Int32) : Met l yX0_lane (ws_ yX0_lane cX0_lane 3 (some .int)) { frames := 0, cells := 0, slots := 0, locals := 0 } (va_Pc [.ref (ad 0), .int i, .int h] (sp_pre D [(d, .int)] sz (spW ad d lo hi rl rh rt tl th rd ra su po pp li gi ta))) (va_Qi (fun (r : Int32) (_ : Unit) => r = sg_lane (rdy, q, w, P, g, tk, S) i h) (sp_end D [(d, .int)] (va_A (spW ad d lo hi rl rh rt tl th rd ra su po pp li gi ta) sz) (fun _ : Unit => spW ad d lo hi rl rh rt tl th rd ra su po pp li gi ta)) (va_A (spW ad d lo hi rl rh rt tl th rd ra su po pp li gi ta) sz)) 0 0 (va_A (spW ad d lo hi rl rh rt tl th rd ra su po pp li gi ta) sz) := by
  obtain ⟨c1, c2, c3, c4, c5, c6, c7⟩ := hC
  subst c1
  subst c2
  subst c3
  subst c4
  obtain ⟨a1, a2, a3, a4, a5, a6, a7, a8⟩ := hAI
  by_cases hok : q ≠ 0 ∧ ¬ i < 0 ∧ ¬ nI 25 ≤ i ∧ ¬ h < 0 ∧ h ≤ nI 1
  · obtain ⟨k, hk, rfl⟩ : ∃ j : Nat, j < 25 ∧ i = nI j := by
      rcases pk_ix i (n := 25) (by decide) with z | z | z
      · exact absurd z hok.2.1
      · exact absurd z hok.2.2.1
      · exact z
    obtain ⟨b, hb1, rfl⟩ := nI_of2 (M := nI 1) (n := 1) (by decide) hok.2.2.2.1 hok.2.2.2.2
    obtain ⟨k1, k2, k3, k4, hS⟩ := c7 hok.1
    subst k1
    subst k2
    subst k3
    subst k4
    have hf : sg_lane (rdy, q, w, P, g, ta, S) (nI k) (nI b) = if nI b = nI 0 then sg_l (S k) else sg_h (S k) := by rw [sg_lane, if_pos hok, nI_clamp (by omega)]
    refine Met.ofW (cc := cX0_lane) (maxL := 3) (ret := (some .int)) (by decide) rfl ?_
    intro p e s m args below meth c s₁ B hml hv
    obtain ⟨rfl, hsz, hPw, hK, hD0⟩ := hv
    subst hsz
    have hts := atoms_spec (ws := ws_ yX0_lane cX0_lane 3 (some .int)) B.pre
    have F : CallFix p m c cX0_lane 3 s ([.ref (ad 0), .int (nI k), .int (nI b)] : List Value).toArray lw_all RX0 := ⟨B.exec, B.bytes, hml, findClass_of_methodNamed B.named, fun w h => hts w (List.mem_cons_of_mem _ h)⟩
    have hx := F.1
    have hb := F.2.1
    have hr := B.returns
    have hlocks := B.notSynchronized
    have hD := hD0.self (sz := s.heap.size)
    generalize hAe : va_A (spW ad d lo hi rl rh rt tl th (nI rdy) (nI (sg_rate w)) (nI (sg_suf w)) (nI P) (nI q) (sg_lim w) (nI g) ta) s.heap.size = A at hD ⊢
    have hA : ∀ q : Nat, s.heap.size ≤ q → A q := fun q h => by rw [← hAe]; exact Or.inr h
    have hI : sp_in D A s.heap (spW ad d lo hi rl rh rt tl th (nI rdy) (nI (sg_rate w)) (nI (sg_suf w)) (nI P) (nI q) (sg_lim w) (nI g) ta) s.heap [] := ⟨hPw, hD, va_S.rf⟩
    have hl := lv_entry ([.ref (ad 0), .int (nI k), .int (nI b)]) (n := 3) (Nat.le_of_ble_eq_true rfl)
    rw [lg_entry_eq]
    generalize (lg_sl ([.ref (ad 0), .int (nI k), .int (nI b)]) ++ List.replicate (3 - (lg_sl ([.ref (ad 0), .int (nI k), .int (nI b)])).length) Slot.unset).toArray = ls at hl ⊢
    have hl : lv_has ls 3 [(0, .ref (ad 0)), (1, .int (nI k)), (2, .int (nI b))] := hl
    refine lv_aload_n hx hb dX0_lane_0 rfl (lv_at hl 0 rfl) ?_
    refine sp_get0 (v := .int (nI q)) F hK hI.1 rfl 11 (by decide) q33 rfl rfl dX0_lane_1 ?_
    refine sp_ife (tgt := 26) hx hb (by omega) dX0_lane_4 (by decide) (fun d1 => ?_) (fun d1 => ?_)
    · exact absurd d1 hok.1
    · refine lv_iload_n hx hb dX0_lane_7 rfl (lv_at hl 1 rfl) ?_
      refine lv_if_lt (tgt := 26) hx hb dX0_lane_8 (by decide) (fun d2 => ?_) (fun d2 => ?_)
      · exact absurd d2 (nI_pos (by omega))
      · refine lv_iload_n hx hb dX0_lane_11 rfl (lv_at hl 1 rfl) ?_
        refine lv_bipush (v := nI 25) hx hb dX0_lane_12 kb_25 ?_
        refine sp_ge (tgt := 26) hx hb (by omega) (by omega)  dX0_lane_14 (by decide) (fun d3 => ?_) (fun d3 => ?_)
        · exact absurd d3 (by omega)
        · refine lv_iload_n hx hb dX0_lane_17 rfl (lv_at hl 2 rfl) ?_
          refine lv_if_lt (tgt := 26) hx hb dX0_lane_18 (by decide) (fun d4 => ?_) (fun d4 => ?_)
          · exact absurd d4 (nI_pos (by omega))
          · refine lv_iload_n hx hb dX0_lane_21 rfl (lv_at hl 2 rfl) ?_
            refine lv_iconst (v := nI 1) hx hb dX0_lane_22 kc_1 ?_
            refine sp_le (tgt := 28) hx hb (by omega) (by omega)  dX0_lane_23 (by decide) (fun d5 => ?_) (fun d5 => ?_)
            · refine lv_iload_n hx hb dX0_lane_28 rfl (lv_at hl 2 rfl) ?_
              refine sp_ifn (tgt := 41) hx hb (by omega) dX0_lane_29 (by decide) (fun d6 => ?_) (fun d6 => ?_)
              · refine lv_aload_n hx hb dX0_lane_41 rfl (lv_at hl 0 rfl) ?_
                refine sp_get0 (v := .ref (ad 2)) F hK hI.1 rfl 1 (by decide) q23 rfl rfl dX0_lane_42 ?_
                refine lv_iload_n hx hb dX0_lane_45 rfl (lv_at hl 1 rfl) ?_
                refine sp_iald (v := (sg_h (S k))) hx hb hK hI.1 2 rfl rfl (by decide) (by omega) (hS _ hk).2 dX0_lane_46 ?_
                exact W.iret hx hb hr (fun t ht hW => ⟨⟨_, (), rfl, by rw [hf, if_neg (fun z => d6 ((nI_eq (by omega) (by decide)).mp z))], by rw [ht]; exact hI.1, va_K.moved hW.alike hK, hI.2.1⟩, hI.2.2.F ht⟩) hI.2.2.2.2 dX0_lane_47
              · refine lv_aload_n hx hb dX0_lane_32 rfl (lv_at hl 0 rfl) ?_
                refine sp_get0 (v := .ref (ad 1)) F hK hI.1 rfl 0 (by decide) q22 rfl rfl dX0_lane_33 ?_
                refine lv_iload_n hx hb dX0_lane_36 rfl (lv_at hl 1 rfl) ?_
                refine sp_iald (v := (sg_l (S k))) hx hb hK hI.1 1 rfl rfl (by decide) (by omega) (hS _ hk).1 dX0_lane_37 ?_
                refine lv_goto (tgt := 47) hx hb dX0_lane_38 (by decide) ?_
                exact W.iret hx hb hr (fun t ht hW => ⟨⟨_, (), rfl, by rw [hf, d6, if_pos rfl], by rw [ht]; exact hI.1, va_K.moved hW.alike hK, hI.2.1⟩, hI.2.2.F ht⟩) hI.2.2.2.2 dX0_lane_47
            · exact absurd d5 (by omega)
  · have hf : sg_lane (rdy, q, w, P, g, ta, S) i h = nI 0 := by rw [sg_lane, if_neg hok]
    refine Met.ofW (cc := cX0_lane) (maxL := 3) (ret := (some .int)) (by decide) rfl ?_
    intro p e s m args below meth c s₁ B hml hv
    obtain ⟨rfl, hsz, hPw, hK, hD0⟩ := hv
    subst hsz
    have hts := atoms_spec (ws := ws_ yX0_lane cX0_lane 3 (some .int)) B.pre
    have F : CallFix p m c cX0_lane 3 s ([.ref (ad 0), .int i, .int h] : List Value).toArray lw_all RX0 := ⟨B.exec, B.bytes, hml, findClass_of_methodNamed B.named, fun w h => hts w (List.mem_cons_of_mem _ h)⟩
    have hx := F.1
    have hb := F.2.1
    have hr := B.returns
    have hlocks := B.notSynchronized
    have hD := hD0.self (sz := s.heap.size)
    generalize hAe : va_A (spW ad d lo hi rl rh rt tl th (nI rdy) ra su po (nI q) li (nI g) ta) s.heap.size = A at hD ⊢
    have hA : ∀ q : Nat, s.heap.size ≤ q → A q := fun q h => by rw [← hAe]; exact Or.inr h
    have hI : sp_in D A s.heap (spW ad d lo hi rl rh rt tl th (nI rdy) ra su po (nI q) li (nI g) ta) s.heap [] := ⟨hPw, hD, va_S.rf⟩
    have hl := lv_entry ([.ref (ad 0), .int i, .int h]) (n := 3) (Nat.le_of_ble_eq_true rfl)
    rw [lg_entry_eq]
    generalize (lg_sl ([.ref (ad 0), .int i, .int h]) ++ List.replicate (3 - (lg_sl ([.ref (ad 0), .int i, .int h])).length) Slot.unset).toArray = ls at hl ⊢
    have hl : lv_has ls 3 [(0, .ref (ad 0)), (1, .int i), (2, .int h)] := hl
    refine lv_aload_n hx hb dX0_lane_0 rfl (lv_at hl 0 rfl) ?_
    refine sp_get0 (v := .int (nI q)) F hK hI.1 rfl 11 (by decide) q33 rfl rfl dX0_lane_1 ?_
    refine sp_ife (tgt := 26) hx hb (by omega) dX0_lane_4 (by decide) (fun d1 => ?_) (fun d1 => ?_)
    · refine lv_iconst (v := nI 0) hx hb dX0_lane_26 kc_0 ?_
      exact W.iret hx hb hr (fun t ht hW => ⟨⟨_, (), rfl, hf.symm, by rw [ht]; exact hI.1, va_K.moved hW.alike hK, hI.2.1⟩, hI.2.2.F ht⟩) hI.2.2.2.2 dX0_lane_27
    · refine lv_iload_n hx hb dX0_lane_7 rfl (lv_at hl 1 rfl) ?_
      refine lv_if_lt (tgt := 26) hx hb dX0_lane_8 (by decide) (fun d2 => ?_) (fun d2 => ?_)
      · refine lv_iconst (v := nI 0) hx hb dX0_lane_26 kc_0 ?_
        exact W.iret hx hb hr (fun t ht hW => ⟨⟨_, (), rfl, hf.symm, by rw [ht]; exact hI.1, va_K.moved hW.alike hK, hI.2.1⟩, hI.2.2.F ht⟩) hI.2.2.2.2 dX0_lane_27
      · refine lv_iload_n hx hb dX0_lane_11 rfl (lv_at hl 1 rfl) ?_
        refine lv_bipush (v := nI 25) hx hb dX0_lane_12 kb_25 ?_
        refine lv_icmp_ge (tgt := 26) hx hb dX0_lane_14 (by decide) (fun d3 => ?_) (fun d3 => ?_)
        · refine lv_iconst (v := nI 0) hx hb dX0_lane_26 kc_0 ?_
          exact W.iret hx hb hr (fun t ht hW => ⟨⟨_, (), rfl, hf.symm, by rw [ht]; exact hI.1, va_K.moved hW.alike hK, hI.2.1⟩, hI.2.2.F ht⟩) hI.2.2.2.2 dX0_lane_27
        · refine lv_iload_n hx hb dX0_lane_17 rfl (lv_at hl 2 rfl) ?_
          refine lv_if_lt (tgt := 26) hx hb dX0_lane_18 (by decide) (fun d4 => ?_) (fun d4 => ?_)
          · refine lv_iconst (v := nI 0) hx hb dX0_lane_26 kc_0 ?_
            exact W.iret hx hb hr (fun t ht hW => ⟨⟨_, (), rfl, hf.symm, by rw [ht]; exact hI.1, va_K.moved hW.alike hK, hI.2.1⟩, hI.2.2.F ht⟩) hI.2.2.2.2 dX0_lane_27
          · refine lv_iload_n hx hb dX0_lane_21 rfl (lv_at hl 2 rfl) ?_
            refine lv_iconst (v := nI 1) hx hb dX0_lane_22 kc_1 ?_
            refine lv_icmp_le (tgt := 28) hx hb dX0_lane_23 (by decide) (fun d5 => ?_) (fun d5 => ?_)
            · exact absurd ⟨d1, d2, d3, d4, d5⟩ hok
            · refine lv_iconst (v := nI 0) hx hb dX0_lane_26 kc_0 ?_
              exact W.iret hx hb hr (fun t ht hW => ⟨⟨_, (), rfl, hf.symm, by rw [ht]; exact hI.1, va_K.moved hW.alike hK, hI.2.1⟩, hI.2.2.F ht⟩) hI.2.2.2.2 dX0_lane_27
set_option maxHeartbeats 4000000 in
set_option maxRecDepth 100000 in
/-- count -/
theorem met_count (l : Launch) (D : va_G) (ad : Nat → Nat) (d : ClassId) (sz : Nat) (lo hi rl rh rt tl th : Nat → Int32) (rd ra su po pp li gi ta : Int32) (rdy q w P g : Nat) (tk : Int32) (S : Nat → BitVec 64) (hC : sg_CR (rdy, q, w, P, g, tk, S) lo hi rl rh rt rd ra su po pp li gi ta) (n0 : Nat) (hn0 : n0 < 2 ^ 30) (hAI : sg_AI n0 (rdy, q, w, P, g, tk, S)) : Met l yX0_count (ws_ yX0_count cX0_count 1 (some .int)) { frames := 0, cells := 0, slots := 0, locals := 0 } (va_Pc [.ref (ad 0)] (sp_pre D [(d, .int)] sz (spW ad d lo hi rl rh rt tl th rd ra su po pp li gi ta))) (va_Qi (fun (r : Int32) (_ : Unit) => r = sg_count (rdy, q, w, P, g, tk, S)) (sp_end D [(d, .int)] (va_A (spW ad d lo hi rl rh rt tl th rd ra su po pp li gi ta) sz) (fun _ : Unit => spW ad d lo hi rl rh rt tl th rd ra su po pp li gi ta)) (va_A (spW ad d lo hi rl rh rt tl th rd ra su po pp li gi ta) sz)) 0 0 (va_A (spW ad d lo hi rl rh rt tl th rd ra su po pp li gi ta) sz) := by
  obtain ⟨c1, c2, c3, c4, c5, c6, c7⟩ := hC
  subst c1
  subst c2
  subst c3
  subst c4
  obtain ⟨a1, a2, a3, a4, a5, a6, a7, a8⟩ := hAI
  refine Met.ofW (cc := cX0_count) (maxL := 1) (ret := (some .int)) (by decide) rfl ?_
  intro p e s m args below meth c s₁ B hml hv
  obtain ⟨rfl, hsz, hPw, hK, hD0⟩ := hv
  subst hsz
  have hts := atoms_spec (ws := ws_ yX0_count cX0_count 1 (some .int)) B.pre
  have F : CallFix p m c cX0_count 1 s ([.ref (ad 0)] : List Value).toArray lw_all RX0 := ⟨B.exec, B.bytes, hml, findClass_of_methodNamed B.named, fun w h => hts w (List.mem_cons_of_mem _ h)⟩
  have hx := F.1
  have hb := F.2.1
  have hr := B.returns
  have hlocks := B.notSynchronized
  have hD := hD0.self (sz := s.heap.size)
  generalize hAe : va_A (spW ad d lo hi rl rh rt tl th (nI rdy) ra su po (nI q) li (nI g) ta) s.heap.size = A at hD ⊢
  have hA : ∀ q : Nat, s.heap.size ≤ q → A q := fun q h => by rw [← hAe]; exact Or.inr h
  have hI : sp_in D A s.heap (spW ad d lo hi rl rh rt tl th (nI rdy) ra su po (nI q) li (nI g) ta) s.heap [] := ⟨hPw, hD, va_S.rf⟩
  have hl := lv_entry ([.ref (ad 0)]) (n := 1) (Nat.le_of_ble_eq_true rfl)
  rw [lg_entry_eq]
  generalize (lg_sl ([.ref (ad 0)]) ++ List.replicate (1 - (lg_sl ([.ref (ad 0)])).length) Slot.unset).toArray = ls at hl ⊢
  have hl : lv_has ls 1 [(0, .ref (ad 0))] := hl
  refine lv_aload_n hx hb dX0_count_0 rfl (lv_at hl 0 rfl) ?_
  refine sp_get0 (v := .int (nI q)) F hK hI.1 rfl 11 (by decide) q33 rfl rfl dX0_count_1 ?_
  refine lv_iconst (v := nI 2) hx hb dX0_count_4 kc_2 ?_
  refine sp_ne (tgt := 16) hx hb (by omega) (by omega)  dX0_count_5 (by decide) (fun d1 => ?_) (fun d1 => ?_)
  · refine lv_aload_n hx hb dX0_count_16 rfl (lv_at hl 0 rfl) ?_
    refine sp_get0 (v := .int ta) F hK hI.1 rfl 14 (by decide) q36 rfl rfl dX0_count_17 ?_
    exact W.iret hx hb hr (fun t ht hW => ⟨⟨_, (), rfl, by rw [sg_count, if_neg d1], by rw [ht]; exact hI.1, va_K.moved hW.alike hK, hI.2.1⟩, hI.2.2.F ht⟩) hI.2.2.2.2 dX0_count_20
  · refine lv_aload_n hx hb dX0_count_8 rfl (lv_at hl 0 rfl) ?_
    refine sp_get0 (v := .int (nI g)) F hK hI.1 rfl 13 (by decide) q35 rfl rfl dX0_count_9 ?_
    refine lv_ineg hx hb dX0_count_12 ?_
    refine lv_goto (tgt := 20) hx hb dX0_count_13 (by decide) ?_
    exact W.iret hx hb hr (fun t ht hW => ⟨⟨_, (), rfl, by rw [sg_count, if_pos d1], by rw [ht]; exact hI.1, va_K.moved hW.alike hK, hI.2.1⟩, hI.2.2.F ht⟩) hI.2.2.2.2 dX0_count_20
end
section
/-! the reference: mix, move, join; printed by gen/m_model.py -/
set_option maxHeartbeats 4000000 in
set_option maxRecDepth 100000 in
/-- mix: the sums -/
theorem m1_a {p : Program} {l : Launch} {e : Env} {R : Room} {s : State} {m : MethodId} {args : Array Value} {below : List Frame} {meth : Method} {c : Code} {Q : State → Prop} {D : va_G} {A : Nat → Prop} {H0 : Heap} {ad : Nat → Nat} {d : ClassId} {st ot : Nat → Int64} {ir ib wa pl ta co : Int32} {S : Nat → BitVec 64} (F : CallFix p m c cX1_mix 2 s args lw_all RX1) (hK : va_K D vwCl [(d, .long)] s) (hS : sg_MH st S)
    (kx : ∀ (sm : Nat → Int64) (H : Heap) (locs : List Loc) (ls : Array Slot), (∀ i, i < 5 → sm i = sg_w (sg_C S i)) → sp_in D A H0 (mdW ad d st ot sm ir ib wa pl ta co) H locs → lv_has ls 2 [(0, .ref (ad 0))] → W p l e R s m args below meth c H locs 0 0 Q (F0 m 64 ls [])) :
    ∀ (n x : Nat) (sm : Nat → Int64) (H : Heap) (locs : List Loc) (ls : Array Slot), x ≤ 5 → 5 < x + n → (∀ i, i < x → sm i = sg_w (sg_C S i)) → sp_in D A H0 (mdW ad d st ot sm ir ib wa pl ta co) H locs → lv_has ls 2 [(0, .ref (ad 0)), (1, .int (nI x))] → W p l e R s m args below meth c H locs 0 0 Q (F0 m 2 ls []) := by
  have hx := F.1
  have hb := F.2.1
  intro n
  induction n with
  | zero =>
    intro x sm H locs ls h1 h2
    exact absurd h2 (by omega)
  | succ n ih =>
    intro x sm H locs ls h1 h2 hinv hI hl
    refine lv_iload_n hx hb dX1_mix_2 rfl (lv_at hl 1 rfl) ?_
    refine lv_iconst (v := nI 5) hx hb dX1_mix_3 kc_5 ?_
    refine sp_ge (tgt := 64) hx hb (by omega) (by omega)  dX1_mix_4 (by decide) (fun c1 => ?_) (fun c1 => ?_)
    · have hj : x = 5 := by omega
      subst hj
      exact kx sm H locs ls hinv hI (lv_sub hl [0] rfl)
    · refine lv_aload_n hx hb dX1_mix_7 rfl (lv_at hl 0 rfl) ?_
      refine sp_get1 (v := .ref (ad 3)) F hK hI.1 rfl 8 (by decide) q134 rfl rfl dX1_mix_8 ?_
      refine lv_iload_n hx hb dX1_mix_11 rfl (lv_at hl 1 rfl) ?_
      refine lv_aload_n hx hb dX1_mix_12 rfl (lv_at hl 0 rfl) ?_
      refine sp_get1 (v := .ref (ad 1)) F hK hI.1 rfl 6 (by decide) q132 rfl rfl dX1_mix_13 ?_
      refine lv_iload_n hx hb dX1_mix_16 rfl (lv_at hl 1 rfl) ?_
      refine sp_lald (v := (sg_w (S x))) hx hb hK hI.1 1 rfl rfl (by decide) (by omega) (hS _ (by omega)) dX1_mix_17 ?_
      refine lv_aload_n hx hb dX1_mix_18 rfl (lv_at hl 0 rfl) ?_
      refine sp_get1 (v := .ref (ad 1)) F hK hI.1 rfl 6 (by decide) q132 rfl rfl dX1_mix_19 ?_
      refine lv_iload_n hx hb dX1_mix_22 rfl (lv_at hl 1 rfl) ?_
      refine lv_iconst (v := nI 5) hx hb dX1_mix_23 kc_5 ?_
      refine sp_iadd (z := x + 5) hx hb rfl dX1_mix_24 ?_
      refine sp_lald (v := (sg_w (S (x + 5)))) hx hb hK hI.1 1 rfl rfl (by decide) (by omega) (hS _ (by omega)) dX1_mix_25 ?_
      refine lv_lxor hx hb dX1_mix_26 ?_
      refine sp_topl (y := (sg_w (S x ^^^ S (x + 5)))) (sg_w_xor _ _) ?_
      refine lv_aload_n hx hb dX1_mix_27 rfl (lv_at hl 0 rfl) ?_
      refine sp_get1 (v := .ref (ad 1)) F hK hI.1 rfl 6 (by decide) q132 rfl rfl dX1_mix_28 ?_
      refine lv_iload_n hx hb dX1_mix_31 rfl (lv_at hl 1 rfl) ?_
      refine lv_bipush (v := nI 10) hx hb dX1_mix_32 kb_10 ?_
      refine sp_iadd (z := x + 10) hx hb rfl dX1_mix_34 ?_
      refine sp_lald (v := (sg_w (S (x + 10)))) hx hb hK hI.1 1 rfl rfl (by decide) (by omega) (hS _ (by omega)) dX1_mix_35 ?_
      refine lv_lxor hx hb dX1_mix_36 ?_
      refine sp_topl (y := (sg_w (S x ^^^ S (x + 5) ^^^ S (x + 10)))) (sg_w_xor _ _) ?_
      refine lv_aload_n hx hb dX1_mix_37 rfl (lv_at hl 0 rfl) ?_
      refine sp_get1 (v := .ref (ad 1)) F hK hI.1 rfl 6 (by decide) q132 rfl rfl dX1_mix_38 ?_
      refine lv_iload_n hx hb dX1_mix_41 rfl (lv_at hl 1 rfl) ?_
      refine lv_bipush (v := nI 15) hx hb dX1_mix_42 kb_15 ?_
      refine sp_iadd (z := x + 15) hx hb rfl dX1_mix_44 ?_
      refine sp_lald (v := (sg_w (S (x + 15)))) hx hb hK hI.1 1 rfl rfl (by decide) (by omega) (hS _ (by omega)) dX1_mix_45 ?_
      refine lv_lxor hx hb dX1_mix_46 ?_
      refine sp_topl (y := (sg_w (S x ^^^ S (x + 5) ^^^ S (x + 10) ^^^ S (x + 15)))) (sg_w_xor _ _) ?_
      refine lv_aload_n hx hb dX1_mix_47 rfl (lv_at hl 0 rfl) ?_
      refine sp_get1 (v := .ref (ad 1)) F hK hI.1 rfl 6 (by decide) q132 rfl rfl dX1_mix_48 ?_
      refine lv_iload_n hx hb dX1_mix_51 rfl (lv_at hl 1 rfl) ?_
      refine lv_bipush (v := nI 20) hx hb dX1_mix_52 kb_20 ?_
      refine sp_iadd (z := x + 20) hx hb rfl dX1_mix_54 ?_
      refine sp_lald (v := (sg_w (S (x + 20)))) hx hb hK hI.1 1 rfl rfl (by decide) (by omega) (hS _ (by omega)) dX1_mix_55 ?_
      refine lv_lxor hx hb dX1_mix_56 ?_
      refine sp_topl (y := (sg_w (S x ^^^ S (x + 5) ^^^ S (x + 10) ^^^ S (x + 15) ^^^ S (x + 20)))) (sg_w_xor _ _) ?_
      refine sp_topl (y := (sg_w (sg_C S x))) rfl ?_
      refine sp_last hx hb hK hI 3 rfl rfl (by decide) (by omega) dX1_mix_57 (fun H locs sm1 esm1 hI => ?_)
      have hI : sp_in D A _ (mdW ad d st ot sm1 ir ib wa pl ta co) H locs := hI
      refine lv_iinc (v := (nI (x + 1))) (lv' := [(1, .int (nI (x + 1))), (0, .ref (ad 0))]) hx hb dX1_mix_58 hl (k := 1) rfl (ki_1 _) (by decide) rfl (fun ls hl => ?_)
      refine lv_goto (tgt := 2) hx hb dX1_mix_61 (by decide) ?_
      exact ih (x + 1) sm1 H locs ls (by omega) (by omega) (sg_step1w hinv esm1) hI (lv_sub hl [1, 0] rfl)
set_option maxHeartbeats 4000000 in
set_option maxRecDepth 100000 in
/-- mix: the lanes -/
theorem m1_b {p : Program} {l : Launch} {e : Env} {R : Room} {s : State} {m : MethodId} {args : Array Value} {below : List Frame} {meth : Method} {c : Code} {Q : State → Prop} {D : va_G} {A : Nat → Prop} {H0 : Heap} {ad : Nat → Nat} {d : ClassId} {ot sm : Nat → Int64} {ir ib wa pl ta co : Int32} {S : Nat → BitVec 64} (F : CallFix p m c cX1_mix 2 s args lw_all RX1) (hK : va_K D vwCl [(d, .long)] s) (hT : ∀ i, i < 5 → sm i = sg_w (sg_C S i)) (hR : 0 + 1 ≤ R.frames ∧ 8 + (3 + 11) + 0 ≤ R.locals)
    (kx : ∀ (st : Nat → Int64) (H : Heap) (locs : List Loc) (ls : Array Slot), sg_MH st (sg_T S) → sp_in D A H0 (mdW ad d st ot sm ir ib wa pl ta co) H locs → lv_has ls 2 [(0, .ref (ad 0))] → W p l e R s m args below meth c H locs 0 0 Q (F0 m 116 ls [])) :
    ∀ (n k : Nat) (st : Nat → Int64) (H : Heap) (locs : List Loc) (ls : Array Slot), k ≤ 25 → 25 < k + n → (∀ j, j < 25 → st j = sg_w (if j < k then sg_T S j else S j)) → sp_in D A H0 (mdW ad d st ot sm ir ib wa pl ta co) H locs → lv_has ls 2 [(0, .ref (ad 0)), (1, .int (nI k))] → W p l e R s m args below meth c H locs 0 0 Q (F0 m 66 ls []) := by
  have hx := F.1
  have hb := F.2.1
  intro n
  induction n with
  | zero =>
    intro k st H locs ls h1 h2
    exact absurd h2 (by omega)
  | succ n ih =>
    intro k st H locs ls h1 h2 hinv hI hl
    refine lv_iload_n hx hb dX1_mix_66 rfl (lv_at hl 1 rfl) ?_
    refine lv_bipush (v := nI 25) hx hb dX1_mix_67 kb_25 ?_
    refine sp_ge (tgt := 116) hx hb (by omega) (by omega)  dX1_mix_69 (by decide) (fun c1 => ?_) (fun c1 => ?_)
    · have hj : k = 25 := by omega
      subst hj
      exact kx st H locs ls (fun j hj => by have h := hinv j hj; rw [if_pos hj] at h; exact h) hI (lv_sub hl [0] rfl)
    · refine lv_aload_n hx hb dX1_mix_72 rfl (lv_at hl 0 rfl) ?_
      refine sp_get1 (v := .ref (ad 1)) F hK hI.1 rfl 6 (by decide) q132 rfl rfl dX1_mix_73 ?_
      refine lv_iload_n hx hb dX1_mix_76 rfl (lv_at hl 1 rfl) ?_
      refine lv_aload_n hx hb dX1_mix_77 rfl (lv_at hl 0 rfl) ?_
      refine sp_get1 (v := .ref (ad 1)) F hK hI.1 rfl 6 (by decide) q132 rfl rfl dX1_mix_78 ?_
      refine lv_iload_n hx hb dX1_mix_81 rfl (lv_at hl 1 rfl) ?_
      refine sp_lald (v := (sg_w (S k))) hx hb hK hI.1 1 rfl rfl (by decide) (by omega) ((hinv k c1).trans (by rw [if_neg (Nat.lt_irrefl k)])) dX1_mix_82 ?_
      refine lv_aload_n hx hb dX1_mix_83 rfl (lv_at hl 0 rfl) ?_
      refine sp_get1 (v := .ref (ad 3)) F hK hI.1 rfl 8 (by decide) q134 rfl rfl dX1_mix_84 ?_
      refine lv_iload_n hx hb dX1_mix_87 rfl (lv_at hl 1 rfl) ?_
      refine lv_iconst (v := nI 4) hx hb dX1_mix_88 kc_4 ?_
      refine sp_iadd (z := k + 4) hx hb rfl dX1_mix_89 ?_
      refine lv_iconst (v := nI 5) hx hb dX1_mix_90 kc_5 ?_
      refine sp_irem (z := (k + 4) % 5) hx hb (by omega) (by decide) (by decide) rfl dX1_mix_91 ?_
      refine sp_lald (v := (sg_w (sg_C S ((k + 4) % 5)))) hx hb hK hI.1 3 rfl rfl (by decide) (by omega) (hT _ (by omega)) dX1_mix_92 ?_
      refine lv_lxor hx hb dX1_mix_93 ?_
      refine sp_topl (y := (sg_w (S k ^^^ sg_C S ((k + 4) % 5)))) (sg_w_xor _ _) ?_
      refine lv_aload_n hx hb dX1_mix_94 rfl (lv_at hl 0 rfl) ?_
      refine sp_get1 (v := .ref (ad 3)) F hK hI.1 rfl 8 (by decide) q134 rfl rfl dX1_mix_95 ?_
      refine lv_iload_n hx hb dX1_mix_98 rfl (lv_at hl 1 rfl) ?_
      refine lv_iconst (v := nI 1) hx hb dX1_mix_99 kc_1 ?_
      refine sp_iadd (z := k + 1) hx hb rfl dX1_mix_100 ?_
      refine lv_iconst (v := nI 5) hx hb dX1_mix_101 kc_5 ?_
      refine sp_irem (z := (k + 1) % 5) hx hb (by omega) (by decide) (by decide) rfl dX1_mix_102 ?_
      refine sp_lald (v := (sg_w (sg_C S ((k + 1) % 5)))) hx hb hK hI.1 3 rfl rfl (by decide) (by omega) (hT _ (by omega)) dX1_mix_103 ?_
      refine lv_iconst (v := nI 1) hx hb dX1_mix_104 kc_1 ?_
      refine sp_callSl 2 F (met_up l (sg_C S ((k + 1) % 5)) 1 (by decide)) (lw_S q182 q183 q13 q184) rfl rfl (by decide +kernel) hR hI rfl hl.1 rfl (Nat.le_of_ble_eq_true rfl) dX1_mix_105 (fun r H locs hr1 hI => ?_)
      refine sp_topl (y := (sg_w (sg_rot (sg_C S ((k + 1) % 5)) 1))) hr1 ?_
      refine lv_lxor hx hb dX1_mix_108 ?_
      refine sp_topl (y := (sg_w (sg_T S k))) (by rw [sg_w_xor, BitVec.xor_assoc]; rfl) ?_
      refine sp_last hx hb hK hI 1 rfl rfl (by decide) (by omega) dX1_mix_109 (fun H locs st1 est1 hI => ?_)
      have hI : sp_in D A _ (mdW ad d st1 ot sm ir ib wa pl ta co) H locs := hI
      refine lv_iinc (v := (nI (k + 1))) (lv' := [(1, .int (nI (k + 1))), (0, .ref (ad 0))]) hx hb dX1_mix_110 hl (k := 1) rfl (ki_1 _) (by decide) rfl (fun ls hl => ?_)
      refine lv_goto (tgt := 66) hx hb dX1_mix_113 (by decide) ?_
      exact ih (k + 1) st1 H locs ls (by omega) (by omega) (sg_step2w hinv est1) hI (lv_sub hl [1, 0] rfl)
set_option maxHeartbeats 4000000 in
set_option maxRecDepth 100000 in
/-- mix: theta -/
theorem met1_mix (l : Launch) (D : va_G) (ad : Nat → Nat) (d : ClassId) (sz : Nat) (st ot sm : Nat → Int64) (ir ib wa pl ta co : Int32) (S : Nat → BitVec 64) (hS : sg_MH st S) : Met l yX1_mix (ws_ yX1_mix cX1_mix 2 none) { frames := 1, cells := 0, slots := 0, locals := 22 } (va_Pc [.ref (ad 0)] (sp_pre D [(d, .long)] sz (mdW ad d st ot sm ir ib wa pl ta co))) (va_Qv (fun x : Nat → Nat → Int64 => sg_MH (x 0) (sg_T S)) (sp_end D [(d, .long)] (va_A (mdW ad d st ot sm ir ib wa pl ta co) sz) (fun x : Nat → Nat → Int64 => mdW ad d (x 0) ot (x 1) ir ib wa pl ta co)) (va_A (mdW ad d st ot sm ir ib wa pl ta co) sz)) 0 0 (va_A (mdW ad d st ot sm ir ib wa pl ta co) sz) := by
  refine Met.ofW (cc := cX1_mix) (maxL := 2) (ret := none) (by decide) rfl ?_
  intro p e s m args below meth c s₁ B hml hv
  obtain ⟨rfl, hsz, hP, hK, hD0⟩ := hv
  subst hsz
  have hts := atoms_spec (ws := ws_ yX1_mix cX1_mix 2 none) B.pre
  have F : CallFix p m c cX1_mix 2 s ([.ref (ad 0)] : List Value).toArray lw_all RX1 := ⟨B.exec, B.bytes, hml, findClass_of_methodNamed B.named, fun w h => hts w (List.mem_cons_of_mem _ h)⟩
  have hx := F.1
  have hb := F.2.1
  have hr := B.returns
  have hlocks := B.notSynchronized
  have hD := hD0.self (sz := s.heap.size)
  generalize hAe : va_A (mdW ad d st ot sm ir ib wa pl ta co) s.heap.size = A at hD ⊢
  have hA : ∀ q : Nat, s.heap.size ≤ q → A q := fun q h => by rw [← hAe]; exact Or.inr h
  have hI : sp_in D A s.heap (mdW ad d st ot sm ir ib wa pl ta co) s.heap [] := ⟨hP, hD, va_S.rf⟩
  have hl := lv_entry ([.ref (ad 0)]) (n := 2) (Nat.le_of_ble_eq_true rfl)
  rw [lg_entry_eq]
  generalize (lg_sl ([.ref (ad 0)]) ++ List.replicate (2 - (lg_sl ([.ref (ad 0)])).length) Slot.unset).toArray = ls at hl ⊢
  have hl : lv_has ls 2 [(0, .ref (ad 0))] := hl
  have hR : 0 + 1 ≤ (headSpec (ws_ yX1_mix cX1_mix 2 none) { frames := 1, cells := 0, slots := 0, locals := 22 }).room.frames ∧ 8 + (3 + 11) + 0 ≤ (headSpec (ws_ yX1_mix cX1_mix 2 none) { frames := 1, cells := 0, slots := 0, locals := 22 }).room.locals := ⟨Nat.le_of_ble_eq_true rfl, Nat.le_of_ble_eq_true rfl⟩
  refine lv_iconst (v := nI 0) hx hb dX1_mix_0 kc_0 ?_
  refine lv_istore_n (lv' := [(1, .int (nI 0)), (0, .ref (ad 0))]) hx hb dX1_mix_1 rfl hl (by decide) rfl (fun ls hl => ?_)
  refine m1_a F hK hS (fun sm H locs ls hT hI hl => ?_) 6 0 sm _ _ ls (by omega) (by omega) (fun i h => absurd h (by omega)) hI (lv_sub hl [1, 0] rfl)
  refine lv_iconst (v := nI 0) hx hb dX1_mix_64 kc_0 ?_
  refine lv_istore_n (lv' := [(1, .int (nI 0)), (0, .ref (ad 0))]) hx hb dX1_mix_65 rfl hl (by decide) rfl (fun ls hl => ?_)
  refine m1_b F hK hT hR (fun st H locs ls hT hI hl => ?_) 26 0 st _ _ ls (by omega) (by omega) (fun j hj => by rw [if_neg (Nat.not_lt_zero j)]; exact hS j hj) hI (lv_sub hl [1, 0] rfl)
  exact W.vret hx hb hr (fun t ht hW => ⟨⟨sg_m3 st sm sm, rfl, hT, by rw [ht]; exact hI.1, va_K.moved hW.alike hK, hI.2.1⟩, hI.2.2.F ht⟩) hI.2.2.2.2 dX1_mix_116
set_option maxHeartbeats 4000000 in
set_option maxRecDepth 100000 in
/-- move: the walk -/
theorem m2_a {p : Program} {l : Launch} {e : Env} {R : Room} {s : State} {m : MethodId} {args : Array Value} {below : List Frame} {meth : Method} {c : Code} {Q : State → Prop} {D : va_G} {A : Nat → Prop} {H0 : Heap} {ad : Nat → Nat} {d : ClassId} {st sm : Nat → Int64} {ir ib wa pl ta co : Int32} {S : Nat → BitVec 64} (F : CallFix p m c cX1_move 6 s args lw_all RX1) (hK : va_K D vwCl [(d, .long)] s) (hS : sg_MH st S) (hR : 0 + 1 ≤ R.frames ∧ 8 + (3 + 11) + 0 ≤ R.locals)
    (kx : ∀ (ot : Nat → Int64) (H : Heap) (locs : List Loc) (ls : Array Slot), sg_MH ot (sg_M S) → sp_in D A H0 (mdW ad d st ot sm ir ib wa pl ta co) H locs → lv_has ls 6 [(0, .ref (ad 0))] → W p l e R s m args below meth c H locs 0 0 Q (F0 m 86 ls [])) :
    ∀ (n t : Nat) (ot : Nat → Int64) (H : Heap) (locs : List Loc) (ls : Array Slot), t ≤ 24 → 24 < t + n → sg_wm S t ot → sp_in D A H0 (mdW ad d st ot sm ir ib wa pl ta co) H locs → lv_has ls 6 [(0, .ref (ad 0)), (1, .int (nI (sg_wx t))), (2, .int (nI (sg_wy t))), (3, .int (nI t))] → W p l e R s m args below meth c H locs 0 0 Q (F0 m 18 ls []) := by
  have hx := F.1
  have hb := F.2.1
  intro n
  induction n with
  | zero =>
    intro t ot H locs ls h1 h2
    exact absurd h2 (by omega)
  | succ n ih =>
    intro t ot H locs ls h1 h2 hinv hI hl
    refine lv_iload_n hx hb dX1_move_18 rfl (lv_at hl 3 rfl) ?_
    refine lv_bipush (v := nI 24) hx hb dX1_move_19 kb_24 ?_
    refine sp_ge (tgt := 86) hx hb (by omega) (by omega)  dX1_move_21 (by decide) (fun c1 => ?_) (fun c1 => ?_)
    · have hj : t = 24 := by omega
      subst hj
      exact kx ot H locs ls (sg_wme hinv) hI (lv_sub hl [0] rfl)
    · have hw5 := sg_w5 t (by omega)
      have hq : (t + 1) * (t + 2) ≤ 24 * 25 := Nat.mul_le_mul (by omega) (by omega)
      have hd5 := sg_d25 t c1
      refine lv_iload_n hx hb dX1_move_24 rfl (lv_at hl 3 rfl) ?_
      refine lv_iconst (v := nI 1) hx hb dX1_move_25 kc_1 ?_
      refine sp_iadd (z := t + 1) hx hb rfl dX1_move_26 ?_
      refine lv_iload_n hx hb dX1_move_27 rfl (lv_at hl 3 rfl) ?_
      refine lv_iconst (v := nI 2) hx hb dX1_move_28 kc_2 ?_
      refine sp_iadd (z := t + 2) hx hb rfl dX1_move_29 ?_
      refine sp_imul (z := (t + 1) * (t + 2)) hx hb rfl dX1_move_30 ?_
      refine lv_iconst (v := nI 2) hx hb dX1_move_31 kc_2 ?_
      refine sp_idiv (z := ((t + 1) * (t + 2)) / 2) hx hb (by omega) (by decide) (by decide) rfl dX1_move_32 ?_
      refine lv_bipush (v := nI 64) hx hb dX1_move_33 kb_64 ?_
      refine sp_irem (z := (((t + 1) * (t + 2)) / 2) % 64) hx hb (by omega) (by decide) (by decide) rfl dX1_move_35 ?_
      refine sp_topi (y := (nI (sg_R (sg_sw t)))) (by rw [hd5.2.2.2.2.2]) ?_
      refine lv_istore (lv' := [(4, .int (nI (sg_R (sg_sw t)))), (0, .ref (ad 0)), (1, .int (nI (sg_wx t))), (2, .int (nI (sg_wy t))), (3, .int (nI t))]) hx hb dX1_move_36 hl (by decide) rfl (fun ls hl => ?_)
      refine lv_iconst (v := nI 2) hx hb dX1_move_38 kc_2 ?_
      refine lv_iload_n hx hb dX1_move_39 rfl (lv_at hl 2 rfl) ?_
      refine sp_imul (z := 2 * (sg_wx t)) hx hb rfl dX1_move_40 ?_
      refine lv_iconst (v := nI 3) hx hb dX1_move_41 kc_3 ?_
      refine lv_iload_n hx hb dX1_move_42 rfl (lv_at hl 3 rfl) ?_
      refine sp_imul (z := 3 * (sg_wy t)) hx hb rfl dX1_move_43 ?_
      refine sp_iadd (z := (2 * (sg_wx t)) + (3 * (sg_wy t))) hx hb rfl dX1_move_44 ?_
      refine lv_iconst (v := nI 5) hx hb dX1_move_45 kc_5 ?_
      refine sp_irem (z := ((2 * (sg_wx t)) + (3 * (sg_wy t))) % 5) hx hb (by omega) (by decide) (by decide) rfl dX1_move_46 ?_
      refine lv_istore (lv' := [(5, .int (nI (((2 * (sg_wx t)) + (3 * (sg_wy t))) % 5))), (4, .int (nI (sg_R (sg_sw t)))), (0, .ref (ad 0)), (1, .int (nI (sg_wx t))), (2, .int (nI (sg_wy t))), (3, .int (nI t))]) hx hb dX1_move_47 hl (by decide) rfl (fun ls hl => ?_)
      refine lv_aload_n hx hb dX1_move_49 rfl (lv_at hl 2 rfl) ?_
      refine sp_get1 (v := .ref (ad 2)) F hK hI.1 rfl 7 (by decide) q133 rfl rfl dX1_move_50 ?_
      refine lv_iload_n hx hb dX1_move_53 rfl (lv_at hl 4 rfl) ?_
      refine lv_iconst (v := nI 5) hx hb dX1_move_54 kc_5 ?_
      refine lv_iload hx hb dX1_move_55 (lv_at hl 0 rfl) ?_
      refine sp_imul (z := 5 * (((2 * (sg_wx t)) + (3 * (sg_wy t))) % 5)) hx hb rfl dX1_move_57 ?_
      refine sp_iadd (z := (sg_wy t) + (5 * (((2 * (sg_wx t)) + (3 * (sg_wy t))) % 5))) hx hb rfl dX1_move_58 ?_
      refine lv_aload_n hx hb dX1_move_59 rfl (lv_at hl 2 rfl) ?_
      refine sp_get1 (v := .ref (ad 1)) F hK hI.1 rfl 6 (by decide) q132 rfl rfl dX1_move_60 ?_
      refine lv_iload_n hx hb dX1_move_63 rfl (lv_at hl 3 rfl) ?_
      refine lv_iconst (v := nI 5) hx hb dX1_move_64 kc_5 ?_
      refine lv_iload_n hx hb dX1_move_65 rfl (lv_at hl 4 rfl) ?_
      refine sp_imul (z := 5 * (sg_wy t)) hx hb rfl dX1_move_66 ?_
      refine sp_iadd (z := (sg_wx t) + (5 * (sg_wy t))) hx hb rfl dX1_move_67 ?_
      refine sp_lald (v := (sg_w (S (sg_sw t)))) hx hb hK hI.1 1 rfl rfl (by decide) hd5.2.2.1 (hS (sg_sw t) hd5.2.2.1) dX1_move_68 ?_
      refine lv_iload hx hb dX1_move_69 (lv_at hl 1 rfl) ?_
      refine sp_callSl 2 F (met_up l (S (sg_sw t)) (sg_R (sg_sw t)) (sg_R64 _ hd5.2.2.1)) (lw_S q182 q183 q13 q184) rfl rfl (by decide +kernel) hR hI rfl hl.1 rfl (Nat.le_of_ble_eq_true rfl) dX1_move_71 (fun r H locs hr1 hI => ?_)
      refine sp_topl (y := (sg_w (sg_rot (S (sg_sw t)) (sg_R (sg_sw t))))) hr1 ?_
      refine sp_last hx hb hK hI 2 rfl rfl (by decide) hd5.1 dX1_move_74 (fun H locs ot1 eot1 hI => ?_)
      have hI : sp_in D A _ (mdW ad d st ot1 sm ir ib wa pl ta co) H locs := hI
      refine lv_iload_n hx hb dX1_move_75 rfl (lv_at hl 4 rfl) ?_
      refine lv_istore_n (lv' := [(1, .int (nI (sg_wy t))), (5, .int (nI (((2 * (sg_wx t)) + (3 * (sg_wy t))) % 5))), (4, .int (nI (sg_R (sg_sw t)))), (0, .ref (ad 0)), (2, .int (nI (sg_wy t))), (3, .int (nI t))]) hx hb dX1_move_76 rfl hl (by decide) rfl (fun ls hl => ?_)
      refine lv_iload hx hb dX1_move_77 (lv_at hl 1 rfl) ?_
      refine lv_istore_n (lv' := [(2, .int (nI (((2 * (sg_wx t)) + (3 * (sg_wy t))) % 5))), (1, .int (nI (sg_wy t))), (5, .int (nI (((2 * (sg_wx t)) + (3 * (sg_wy t))) % 5))), (4, .int (nI (sg_R (sg_sw t)))), (0, .ref (ad 0)), (3, .int (nI t))]) hx hb dX1_move_79 rfl hl (by decide) rfl (fun ls hl => ?_)
      rw [← (sg_w1 t c1).2, ← (sg_w1 t c1).1] at hl
      refine lv_iinc (v := (nI (t + 1))) (lv' := [(3, .int (nI (t + 1))), (2, .int (nI (sg_wy (t + 1)))), (1, .int (nI (sg_wx (t + 1)))), (5, .int (nI (sg_wy (t + 1)))), (4, .int (nI (sg_R (sg_sw t)))), (0, .ref (ad 0))]) hx hb dX1_move_80 hl (k := 5) rfl (ki_1 _) (by decide) rfl (fun ls hl => ?_)
      refine lv_goto (tgt := 18) hx hb dX1_move_83 (by decide) ?_
      exact ih (t + 1) ot1 H locs ls (by omega) (by omega) (sg_wm1 c1 hinv eot1) hI (lv_sub hl [5, 2, 1, 0] rfl)
set_option maxHeartbeats 4000000 in
set_option maxRecDepth 100000 in
/-- move: rho and pi -/
theorem met1_move (l : Launch) (D : va_G) (ad : Nat → Nat) (d : ClassId) (sz : Nat) (st ot sm : Nat → Int64) (ir ib wa pl ta co : Int32) (S : Nat → BitVec 64) (hS : sg_MH st S) : Met l yX1_move (ws_ yX1_move cX1_move 6 none) { frames := 1, cells := 0, slots := 0, locals := 22 } (va_Pc [.ref (ad 0)] (sp_pre D [(d, .long)] sz (mdW ad d st ot sm ir ib wa pl ta co))) (va_Qv (fun x : Nat → Nat → Int64 => sg_MH (x 0) (sg_M S)) (sp_end D [(d, .long)] (va_A (mdW ad d st ot sm ir ib wa pl ta co) sz) (fun x : Nat → Nat → Int64 => mdW ad d st (x 0) sm ir ib wa pl ta co)) (va_A (mdW ad d st ot sm ir ib wa pl ta co) sz)) 0 0 (va_A (mdW ad d st ot sm ir ib wa pl ta co) sz) := by
  refine Met.ofW (cc := cX1_move) (maxL := 6) (ret := none) (by decide) rfl ?_
  intro p e s m args below meth c s₁ B hml hv
  obtain ⟨rfl, hsz, hP, hK, hD0⟩ := hv
  subst hsz
  have hts := atoms_spec (ws := ws_ yX1_move cX1_move 6 none) B.pre
  have F : CallFix p m c cX1_move 6 s ([.ref (ad 0)] : List Value).toArray lw_all RX1 := ⟨B.exec, B.bytes, hml, findClass_of_methodNamed B.named, fun w h => hts w (List.mem_cons_of_mem _ h)⟩
  have hx := F.1
  have hb := F.2.1
  have hr := B.returns
  have hlocks := B.notSynchronized
  have hD := hD0.self (sz := s.heap.size)
  generalize hAe : va_A (mdW ad d st ot sm ir ib wa pl ta co) s.heap.size = A at hD ⊢
  have hA : ∀ q : Nat, s.heap.size ≤ q → A q := fun q h => by rw [← hAe]; exact Or.inr h
  have hI : sp_in D A s.heap (mdW ad d st ot sm ir ib wa pl ta co) s.heap [] := ⟨hP, hD, va_S.rf⟩
  have hl := lv_entry ([.ref (ad 0)]) (n := 6) (Nat.le_of_ble_eq_true rfl)
  rw [lg_entry_eq]
  generalize (lg_sl ([.ref (ad 0)]) ++ List.replicate (6 - (lg_sl ([.ref (ad 0)])).length) Slot.unset).toArray = ls at hl ⊢
  have hl : lv_has ls 6 [(0, .ref (ad 0))] := hl
  have hR : 0 + 1 ≤ (headSpec (ws_ yX1_move cX1_move 6 none) { frames := 1, cells := 0, slots := 0, locals := 22 }).room.frames ∧ 8 + (3 + 11) + 0 ≤ (headSpec (ws_ yX1_move cX1_move 6 none) { frames := 1, cells := 0, slots := 0, locals := 22 }).room.locals := ⟨Nat.le_of_ble_eq_true rfl, Nat.le_of_ble_eq_true rfl⟩
  refine lv_aload_n hx hb dX1_move_0 rfl (lv_at hl 0 rfl) ?_
  refine sp_get1 (v := .ref (ad 2)) F hK hI.1 rfl 7 (by decide) q133 rfl rfl dX1_move_1 ?_
  refine lv_iconst (v := nI 0) hx hb dX1_move_4 kc_0 ?_
  refine lv_aload_n hx hb dX1_move_5 rfl (lv_at hl 0 rfl) ?_
  refine sp_get1 (v := .ref (ad 1)) F hK hI.1 rfl 6 (by decide) q132 rfl rfl dX1_move_6 ?_
  refine lv_iconst (v := nI 0) hx hb dX1_move_9 kc_0 ?_
  refine sp_lald (v := (sg_w (S 0))) hx hb hK hI.1 1 rfl rfl (by decide) (by omega) (hS 0 (by decide)) dX1_move_10 ?_
  refine sp_last hx hb hK hI 2 rfl rfl (by decide) (by omega) dX1_move_11 (fun H locs ot1 eot1 hI => ?_)
  have hI : sp_in D A _ (mdW ad d st ot1 sm ir ib wa pl ta co) H locs := hI
  refine lv_iconst (v := nI 1) hx hb dX1_move_12 kc_1 ?_
  refine lv_istore_n (lv' := [(1, .int (nI 1)), (0, .ref (ad 0))]) hx hb dX1_move_13 rfl hl (by decide) rfl (fun ls hl => ?_)
  refine lv_iconst (v := nI 0) hx hb dX1_move_14 kc_0 ?_
  refine lv_istore_n (lv' := [(2, .int (nI 0)), (1, .int (nI 1)), (0, .ref (ad 0))]) hx hb dX1_move_15 rfl hl (by decide) rfl (fun ls hl => ?_)
  refine lv_iconst (v := nI 0) hx hb dX1_move_16 kc_0 ?_
  refine lv_istore_n (lv' := [(3, .int (nI 0)), (2, .int (nI 0)), (1, .int (nI 1)), (0, .ref (ad 0))]) hx hb dX1_move_17 rfl hl (by decide) rfl (fun ls hl => ?_)
  refine m2_a F hK hS hR (fun ot H locs ls hT hI hl => ?_) 25 0 ot1 _ _ ls (by omega) (by omega) ⟨by rw [eot1, pk_uLs], fun u h => absurd h (by omega)⟩ hI (lv_sub hl [3, 2, 1, 0] rfl)
  exact W.vret hx hb hr (fun t ht hW => ⟨⟨sg_m3 ot ot ot, rfl, hT, by rw [ht]; exact hI.1, va_K.moved hW.alike hK, hI.2.1⟩, hI.2.2.F ht⟩) hI.2.2.2.2 dX1_move_86
set_option maxHeartbeats 4000000 in
set_option maxRecDepth 100000 in
/-- join: the lanes -/
theorem m3_a {p : Program} {l : Launch} {e : Env} {R : Room} {s : State} {m : MethodId} {args : Array Value} {below : List Frame} {meth : Method} {c : Code} {Q : State → Prop} {D : va_G} {A : Nat → Prop} {H0 : Heap} {ad : Nat → Nat} {d : ClassId} {ot sm : Nat → Int64} {ir ib wa pl ta co : Int32} {S : Nat → BitVec 64} (F : CallFix p m c cX1_join 3 s args lw_all RX1) (hK : va_K D vwCl [(d, .long)] s) (hS : sg_MH ot S)
    (kx : ∀ (st : Nat → Int64) (H : Heap) (locs : List Loc) (ls : Array Slot), sg_MH st (sg_X S) → sp_in D A H0 (mdW ad d st ot sm ir ib wa pl ta co) H locs → lv_has ls 3 [(0, .ref (ad 0))] → W p l e R s m args below meth c H locs 0 0 Q (F0 m 62 ls [])) :
    ∀ (n k : Nat) (st : Nat → Int64) (H : Heap) (locs : List Loc) (ls : Array Slot), k ≤ 25 → 25 < k + n → (∀ i, i < k → st i = sg_w (sg_X S i)) → sp_in D A H0 (mdW ad d st ot sm ir ib wa pl ta co) H locs → lv_has ls 3 [(0, .ref (ad 0)), (1, .int (nI k))] → W p l e R s m args below meth c H locs 0 0 Q (F0 m 2 ls []) := by
  have hx := F.1
  have hb := F.2.1
  intro n
  induction n with
  | zero =>
    intro k st H locs ls h1 h2
    exact absurd h2 (by omega)
  | succ n ih =>
    intro k st H locs ls h1 h2 hinv hI hl
    refine lv_iload_n hx hb dX1_join_2 rfl (lv_at hl 1 rfl) ?_
    refine lv_bipush (v := nI 25) hx hb dX1_join_3 kb_25 ?_
    refine sp_ge (tgt := 62) hx hb (by omega) (by omega)  dX1_join_5 (by decide) (fun c1 => ?_) (fun c1 => ?_)
    · have hj : k = 25 := by omega
      subst hj
      exact kx st H locs ls hinv hI (lv_sub hl [0] rfl)
    · refine lv_iload_n hx hb dX1_join_8 rfl (lv_at hl 1 rfl) ?_
      refine lv_iload_n hx hb dX1_join_9 rfl (lv_at hl 1 rfl) ?_
      refine lv_iconst (v := nI 5) hx hb dX1_join_10 kc_5 ?_
      refine sp_irem (z := k % 5) hx hb (by omega) (by decide) (by decide) rfl dX1_join_11 ?_
      refine sp_isub (z := k - (k % 5)) hx hb (by omega) rfl dX1_join_12 ?_
      refine lv_istore_n (lv' := [(2, .int (nI (k - (k % 5)))), (0, .ref (ad 0)), (1, .int (nI k))]) hx hb dX1_join_13 rfl hl (by decide) rfl (fun ls hl => ?_)
      refine lv_aload_n hx hb dX1_join_14 rfl (lv_at hl 1 rfl) ?_
      refine sp_get1 (v := .ref (ad 1)) F hK hI.1 rfl 6 (by decide) q132 rfl rfl dX1_join_15 ?_
      refine lv_iload_n hx hb dX1_join_18 rfl (lv_at hl 2 rfl) ?_
      refine lv_aload_n hx hb dX1_join_19 rfl (lv_at hl 1 rfl) ?_
      refine sp_get1 (v := .ref (ad 2)) F hK hI.1 rfl 7 (by decide) q133 rfl rfl dX1_join_20 ?_
      refine lv_iload_n hx hb dX1_join_23 rfl (lv_at hl 2 rfl) ?_
      refine sp_lald (v := (sg_w (S k))) hx hb hK hI.1 2 rfl rfl (by decide) (by omega) (hS _ c1) dX1_join_24 ?_
      refine lv_aload_n hx hb dX1_join_25 rfl (lv_at hl 1 rfl) ?_
      refine sp_get1 (v := .ref (ad 2)) F hK hI.1 rfl 7 (by decide) q133 rfl rfl dX1_join_26 ?_
      refine lv_iload_n hx hb dX1_join_29 rfl (lv_at hl 0 rfl) ?_
      refine lv_iload_n hx hb dX1_join_30 rfl (lv_at hl 2 rfl) ?_
      refine lv_iconst (v := nI 1) hx hb dX1_join_31 kc_1 ?_
      refine sp_iadd (z := k + 1) hx hb rfl dX1_join_32 ?_
      refine lv_iconst (v := nI 5) hx hb dX1_join_33 kc_5 ?_
      refine sp_irem (z := (k + 1) % 5) hx hb (by omega) (by decide) (by decide) rfl dX1_join_34 ?_
      refine sp_iadd (z := (k - (k % 5)) + ((k + 1) % 5)) hx hb rfl dX1_join_35 ?_
      refine sp_lald (v := (sg_w (S (k - k % 5 + (k + 1) % 5)))) hx hb hK hI.1 2 rfl rfl (by decide) (by omega) (hS _ (by omega)) dX1_join_36 ?_
      refine lv_ldc2 (v := -1) hx hb F.2.2.2.1 (F.2.2.2.2 _ q193) dX1_join_37 ?_
      refine lv_lxor hx hb dX1_join_40 ?_
      refine sp_topl (y := (sg_w (~~~ (S (k - k % 5 + (k + 1) % 5))))) (sg_w_not _) ?_
      refine lv_aload_n hx hb dX1_join_41 rfl (lv_at hl 1 rfl) ?_
      refine sp_get1 (v := .ref (ad 2)) F hK hI.1 rfl 7 (by decide) q133 rfl rfl dX1_join_42 ?_
      refine lv_iload_n hx hb dX1_join_45 rfl (lv_at hl 0 rfl) ?_
      refine lv_iload_n hx hb dX1_join_46 rfl (lv_at hl 2 rfl) ?_
      refine lv_iconst (v := nI 2) hx hb dX1_join_47 kc_2 ?_
      refine sp_iadd (z := k + 2) hx hb rfl dX1_join_48 ?_
      refine lv_iconst (v := nI 5) hx hb dX1_join_49 kc_5 ?_
      refine sp_irem (z := (k + 2) % 5) hx hb (by omega) (by decide) (by decide) rfl dX1_join_50 ?_
      refine sp_iadd (z := (k - (k % 5)) + ((k + 2) % 5)) hx hb rfl dX1_join_51 ?_
      refine sp_lald (v := (sg_w (S (k - k % 5 + (k + 2) % 5)))) hx hb hK hI.1 2 rfl rfl (by decide) (by omega) (hS _ (by omega)) dX1_join_52 ?_
      refine lv_land hx hb dX1_join_53 ?_
      refine sp_topl (y := (sg_w (~~~ (S (k - k % 5 + (k + 1) % 5)) &&& S (k - k % 5 + (k + 2) % 5)))) (sg_w_and _ _) ?_
      refine lv_lxor hx hb dX1_join_54 ?_
      refine sp_topl (y := (sg_w (sg_X S k))) (by rw [sg_w_xor]; rfl) ?_
      refine sp_last hx hb hK hI 1 rfl rfl (by decide) (by omega) dX1_join_55 (fun H locs st1 est1 hI => ?_)
      have hI : sp_in D A _ (mdW ad d st1 ot sm ir ib wa pl ta co) H locs := hI
      refine lv_iinc (v := (nI (k + 1))) (lv' := [(1, .int (nI (k + 1))), (2, .int (nI (k - (k % 5)))), (0, .ref (ad 0))]) hx hb dX1_join_56 hl (k := 2) rfl (ki_1 _) (by decide) rfl (fun ls hl => ?_)
      refine lv_goto (tgt := 2) hx hb dX1_join_59 (by decide) ?_
      exact ih (k + 1) st1 H locs ls (by omega) (by omega) (sg_step1w hinv est1) hI (lv_sub hl [2, 0] rfl)
set_option maxHeartbeats 4000000 in
set_option maxRecDepth 100000 in
/-- join: chi -/
theorem met1_join (l : Launch) (D : va_G) (ad : Nat → Nat) (d : ClassId) (sz : Nat) (st ot sm : Nat → Int64) (ir ib wa pl ta co : Int32) (S : Nat → BitVec 64) (hS : sg_MH ot S) : Met l yX1_join (ws_ yX1_join cX1_join 3 none) { frames := 0, cells := 0, slots := 0, locals := 0 } (va_Pc [.ref (ad 0)] (sp_pre D [(d, .long)] sz (mdW ad d st ot sm ir ib wa pl ta co))) (va_Qv (fun x : Nat → Nat → Int64 => sg_MH (x 0) (sg_X S)) (sp_end D [(d, .long)] (va_A (mdW ad d st ot sm ir ib wa pl ta co) sz) (fun x : Nat → Nat → Int64 => mdW ad d (x 0) ot sm ir ib wa pl ta co)) (va_A (mdW ad d st ot sm ir ib wa pl ta co) sz)) 0 0 (va_A (mdW ad d st ot sm ir ib wa pl ta co) sz) := by
  refine Met.ofW (cc := cX1_join) (maxL := 3) (ret := none) (by decide) rfl ?_
  intro p e s m args below meth c s₁ B hml hv
  obtain ⟨rfl, hsz, hP, hK, hD0⟩ := hv
  subst hsz
  have hts := atoms_spec (ws := ws_ yX1_join cX1_join 3 none) B.pre
  have F : CallFix p m c cX1_join 3 s ([.ref (ad 0)] : List Value).toArray lw_all RX1 := ⟨B.exec, B.bytes, hml, findClass_of_methodNamed B.named, fun w h => hts w (List.mem_cons_of_mem _ h)⟩
  have hx := F.1
  have hb := F.2.1
  have hr := B.returns
  have hlocks := B.notSynchronized
  have hD := hD0.self (sz := s.heap.size)
  generalize hAe : va_A (mdW ad d st ot sm ir ib wa pl ta co) s.heap.size = A at hD ⊢
  have hA : ∀ q : Nat, s.heap.size ≤ q → A q := fun q h => by rw [← hAe]; exact Or.inr h
  have hI : sp_in D A s.heap (mdW ad d st ot sm ir ib wa pl ta co) s.heap [] := ⟨hP, hD, va_S.rf⟩
  have hl := lv_entry ([.ref (ad 0)]) (n := 3) (Nat.le_of_ble_eq_true rfl)
  rw [lg_entry_eq]
  generalize (lg_sl ([.ref (ad 0)]) ++ List.replicate (3 - (lg_sl ([.ref (ad 0)])).length) Slot.unset).toArray = ls at hl ⊢
  have hl : lv_has ls 3 [(0, .ref (ad 0))] := hl
  refine lv_iconst (v := nI 0) hx hb dX1_join_0 kc_0 ?_
  refine lv_istore_n (lv' := [(1, .int (nI 0)), (0, .ref (ad 0))]) hx hb dX1_join_1 rfl hl (by decide) rfl (fun ls hl => ?_)
  refine m3_a F hK hS (fun st H locs ls hT hI hl => ?_) 26 0 st _ _ ls (by omega) (by omega) (fun i h => absurd h (by omega)) hI (lv_sub hl [1, 0] rfl)
  exact W.vret hx hb hr (fun t ht hW => ⟨⟨sg_m3 st st st, rfl, hT, by rw [ht]; exact hI.1, va_K.moved hW.alike hK, hI.2.1⟩, hI.2.2.F ht⟩) hI.2.2.2.2 dX1_join_62
end
section
/-! the reference: permute, put; printed by gen/m_model2.py -/
set_option maxHeartbeats 4000000 in
set_option maxRecDepth 100000 in
/-- permute: the constant, bit by bit -/
theorem m4_b {p : Program} {l : Launch} {e : Env} {R : Room} {s : State} {m : MethodId} {args : Array Value} {below : List Frame} {meth : Method} {c : Code} {Q : State → Prop} {D : va_G} {A : Nat → Prop} {H0 : Heap} {ad : Nat → Nat} {d : ClassId} {ot sm : Nat → Int64} {ir ib wa pl ta co : Int32} {S : Nat → BitVec 64} {i : Nat} (F : CallFix p m c cX1_permute 5 s args lw_all RX1) (hK : va_K D vwCl [(d, .long)] s) (hi24 : i < 24)
    (kx : ∀ (st : Nat → Int64) (H : Heap) (locs : List Loc) (ls : Array Slot), sg_MH st (sg_rj i 7 S) → sp_in D A H0 (mdW ad d st ot sm ir ib wa pl ta co) H locs → lv_has ls 5 [(0, .ref (ad 0)), (1, .int (nI (sg_s (7 * (i + 1))))), (2, .int (nI i))] → W p l e R s m args below meth c H locs 0 0 Q (F0 m 86 ls [])) :
    ∀ (n j : Nat) (st : Nat → Int64) (H : Heap) (locs : List Loc) (ls : Array Slot), j ≤ 7 → 7 < j + n → sg_MH st (sg_rj i j S) → sp_in D A H0 (mdW ad d st ot sm ir ib wa pl ta co) H locs → lv_has ls 5 [(0, .ref (ad 0)), (1, .int (nI (sg_s (7 * i + j)))), (2, .int (nI i)), (3, .int (nI (2 ^ j))), (4, .int (nI j))] → W p l e R s m args below meth c H locs 0 0 Q (F0 m 27 ls []) := by
  have hx := F.1
  have hb := F.2.1
  intro n
  induction n with
  | zero =>
    intro j st H locs ls h1 h2
    exact absurd h2 (by omega)
  | succ n ih =>
    intro j st H locs ls h1 h2 hinv hI hl
    refine lv_iload hx hb dX1_permute_27 (lv_at hl 4 rfl) ?_
    refine lv_bipush (v := nI 7) hx hb dX1_permute_29 kb_7 ?_
    refine sp_ge (tgt := 86) hx hb (by omega) (by omega)  dX1_permute_31 (by decide) (fun c1 => ?_) (fun c1 => ?_)
    · have hj : j = 7 := by omega
      subst hj
      exact kx st H locs ls hinv hI (lv_sub hl [0, 1, 2] rfl)
    · have hpw := sg_pw j (by omega)
      have hp7 : 2 ^ j ≤ 64 := by have h := Nat.pow_le_pow_right (n := 2) (by decide) (show j ≤ 6 by omega); exact h
      have hs := sg_slt (7 * i + j) (by omega)
      have hst := sg_s1 (7 * i + j) (by omega)
      refine lv_aload_n hx hb dX1_permute_34 rfl (lv_at hl 0 rfl) ?_
      refine sp_get1 (v := .ref (ad 1)) F hK hI.1 rfl 6 (by decide) q132 rfl rfl dX1_permute_35 ?_
      refine lv_iconst (v := nI 0) hx hb dX1_permute_38 kc_0 ?_
      refine lv_aload_n hx hb dX1_permute_39 rfl (lv_at hl 0 rfl) ?_
      refine sp_get1 (v := .ref (ad 1)) F hK hI.1 rfl 6 (by decide) q132 rfl rfl dX1_permute_40 ?_
      refine lv_iconst (v := nI 0) hx hb dX1_permute_43 kc_0 ?_
      refine sp_lald (v := (sg_w (sg_rj i j S 0))) hx hb hK hI.1 1 rfl rfl (by decide) (by omega) (hinv 0 (by decide)) dX1_permute_44 ?_
      refine lv_iload_n hx hb dX1_permute_45 rfl (lv_at hl 1 rfl) ?_
      refine lv_iconst (v := nI 1) hx hb dX1_permute_46 kc_1 ?_
      refine lv_iand hx hb dX1_permute_47 ?_
      refine sp_topi (y := (nI (sg_s (7 * i + j) % 2))) (sg_and1 _) ?_
      refine lv_i2l hx hb dX1_permute_48 rfl ?_
      refine lv_iload_n hx hb dX1_permute_49 rfl (lv_at hl 3 rfl) ?_
      refine lv_iconst (v := nI 1) hx hb dX1_permute_50 kc_1 ?_
      refine sp_isub (z := (2 ^ j) - 1) hx hb (by omega) rfl dX1_permute_51 ?_
      refine lv_lshl hx hb dX1_permute_52 rfl ?_
      refine sp_topl (y := (sg_w (BitVec.ofNat 64 (sg_s (7 * i + j) % 2) <<< (2 ^ j - 1)))) (sg_shl (by omega) (by omega)) ?_
      refine lv_lxor hx hb dX1_permute_53 ?_
      refine sp_topl (y := (sg_w (sg_rj i j S 0 ^^^ (BitVec.ofNat 64 (sg_s (7 * i + j) % 2) <<< (2 ^ j - 1))))) (sg_w_xor _ _) ?_
      refine sp_last hx hb hK hI 1 rfl rfl (by decide) (by omega) dX1_permute_54 (fun H locs st1 est1 hI => ?_)
      have hI : sp_in D A _ (mdW ad d st1 ot sm ir ib wa pl ta co) H locs := hI
      refine lv_iconst (v := nI 2) hx hb dX1_permute_55 kc_2 ?_
      refine lv_iload_n hx hb dX1_permute_56 rfl (lv_at hl 3 rfl) ?_
      refine sp_imul (z := 2 ^ (j + 1)) hx hb (by rw [Nat.pow_succ, Nat.mul_comm]) dX1_permute_57 ?_
      refine lv_istore_n (lv' := [(3, .int (nI (2 ^ (j + 1)))), (0, .ref (ad 0)), (1, .int (nI (sg_s (7 * i + j)))), (2, .int (nI i)), (4, .int (nI j))]) hx hb dX1_permute_58 rfl hl (by decide) rfl (fun ls hl => ?_)
      refine lv_iconst (v := nI 2) hx hb dX1_permute_59 kc_2 ?_
      refine lv_iload_n hx hb dX1_permute_60 rfl (lv_at hl 2 rfl) ?_
      refine sp_imul (z := 2 * (sg_s (7 * i + j))) hx hb rfl dX1_permute_61 ?_
      refine lv_istore_n (lv' := [(1, .int (nI (2 * (sg_s (7 * i + j))))), (3, .int (nI (2 ^ (j + 1)))), (0, .ref (ad 0)), (2, .int (nI i)), (4, .int (nI j))]) hx hb dX1_permute_62 rfl hl (by decide) rfl (fun ls hl => ?_)
      refine lv_iload_n hx hb dX1_permute_63 rfl (lv_at hl 0 rfl) ?_
      refine lv_sipush (v := nI 255) hx hb dX1_permute_64 ks_255 ?_
      refine sp_le (tgt := 78) hx hb (by omega) (by omega)  dX1_permute_67 (by decide) (fun c4 => ?_) (fun c4 => ?_)
      · refine lv_iload_n hx hb dX1_permute_78 rfl (lv_at hl 0 rfl) ?_
        refine sp_topi (y := (nI (sg_s (7 * i + (j + 1))))) (by rw [if_pos c4] at hst; exact congrArg nI hst.symm) ?_
        refine lv_istore_n (lv' := [(1, .int (nI (sg_s (7 * i + (j + 1))))), (3, .int (nI (2 ^ (j + 1)))), (0, .ref (ad 0)), (2, .int (nI i)), (4, .int (nI j))]) hx hb dX1_permute_79 rfl hl (by decide) rfl (fun ls hl => ?_)
        refine lv_iinc (v := (nI (j + 1))) (lv' := [(4, .int (nI (j + 1))), (1, .int (nI (sg_s (7 * i + (j + 1))))), (3, .int (nI (2 ^ (j + 1)))), (0, .ref (ad 0)), (2, .int (nI i))]) hx hb dX1_permute_80 hl (k := 4) rfl (ki_1 _) (by decide) rfl (fun ls hl => ?_)
        refine lv_goto (tgt := 27) hx hb dX1_permute_83 (by decide) ?_
        exact ih (j + 1) st1 H locs ls (by omega) (by omega) (sg_rj1 hinv est1) hI (lv_sub hl [3, 1, 4, 2, 0] rfl)
      · refine lv_iload_n hx hb dX1_permute_70 rfl (lv_at hl 0 rfl) ?_
        refine lv_sipush (v := nI 369) hx hb dX1_permute_71 ks_369 ?_
        refine lv_ixor hx hb dX1_permute_74 ?_
        refine sp_topi (y := (nI (sg_s (7 * i + (j + 1))))) (by rw [if_neg (Nat.not_le.mpr c4)] at hst; rw [nx_xor]; exact congrArg nI hst.symm) ?_
        refine lv_goto (tgt := 79) hx hb dX1_permute_75 (by decide) ?_
        refine lv_istore_n (lv' := [(1, .int (nI (sg_s (7 * i + (j + 1))))), (3, .int (nI (2 ^ (j + 1)))), (0, .ref (ad 0)), (2, .int (nI i)), (4, .int (nI j))]) hx hb dX1_permute_79 rfl hl (by decide) rfl (fun ls hl => ?_)
        refine lv_iinc (v := (nI (j + 1))) (lv' := [(4, .int (nI (j + 1))), (1, .int (nI (sg_s (7 * i + (j + 1))))), (3, .int (nI (2 ^ (j + 1)))), (0, .ref (ad 0)), (2, .int (nI i))]) hx hb dX1_permute_80 hl (k := 4) rfl (ki_1 _) (by decide) rfl (fun ls hl => ?_)
        refine lv_goto (tgt := 27) hx hb dX1_permute_83 (by decide) ?_
        exact ih (j + 1) st1 H locs ls (by omega) (by omega) (sg_rj1 hinv est1) hI (lv_sub hl [3, 1, 4, 2, 0] rfl)
set_option maxHeartbeats 4000000 in
set_option maxRecDepth 100000 in
/-- permute: the rounds -/
theorem m4_a {p : Program} {l : Launch} {e : Env} {R : Room} {s : State} {m : MethodId} {args : Array Value} {below : List Frame} {meth : Method} {c : Code} {Q : State → Prop} {D : va_G} {A : Nat → Prop} {H0 : Heap} {ad : Nat → Nat} {d : ClassId} {ir ib wa pl ta co : Int32} {S : Nat → BitVec 64} (F : CallFix p m c cX1_permute 5 s args lw_all RX1) (hK : va_K D vwCl [(d, .long)] s) (hA : ∀ q, H0.size ≤ q → A q) (hR : 1 + 1 ≤ R.frames ∧ 8 + (6 + 11) + 22 ≤ R.locals)
    (kx : ∀ (st ot sm : Nat → Int64) (H : Heap) (locs : List Loc) (ls : Array Slot), sg_MH st (sg_P S) → sp_in D A H0 (mdW ad d st ot sm ir ib wa pl ta co) H locs → lv_has ls 5 [(0, .ref (ad 0))] → W p l e R s m args below meth c H locs 0 0 Q (F0 m 92 ls [])) :
    ∀ (n i : Nat) (st ot sm : Nat → Int64) (H : Heap) (locs : List Loc) (ls : Array Slot), i ≤ 24 → 24 < i + n → sg_MH st (sg_pr S i) → sp_in D A H0 (mdW ad d st ot sm ir ib wa pl ta co) H locs → lv_has ls 5 [(0, .ref (ad 0)), (1, .int (nI (sg_s (7 * i)))), (2, .int (nI i))] → W p l e R s m args below meth c H locs 0 0 Q (F0 m 4 ls []) := by
  have hx := F.1
  have hb := F.2.1
  intro n
  induction n with
  | zero =>
    intro i st ot sm H locs ls h1 h2
    exact absurd h2 (by omega)
  | succ n ih =>
    intro i st ot sm H locs ls h1 h2 hinv hI hl
    refine lv_iload_n hx hb dX1_permute_4 rfl (lv_at hl 2 rfl) ?_
    refine lv_bipush (v := nI 24) hx hb dX1_permute_5 kb_24 ?_
    refine sp_ge (tgt := 92) hx hb (by omega) (by omega)  dX1_permute_7 (by decide) (fun c1 => ?_) (fun c1 => ?_)
    · have hj : i = 24 := by omega
      subst hj
      exact kx st ot sm H locs ls hinv hI (lv_sub hl [0] rfl)
    · have hR2 : 1 + 1 ≤ R.frames ∧ 8 + (2 + 11) + 22 ≤ R.locals := ⟨hR.1, by have := hR.2; omega⟩
      have hR0 : 0 + 1 ≤ R.frames ∧ 8 + (3 + 11) + 0 ≤ R.locals := ⟨by have := hR.1; omega, by have := hR.2; omega⟩
      refine lv_aload_n hx hb dX1_permute_10 rfl (lv_at hl 0 rfl) ?_
      refine sp_callV (ci := 1) 0 F (met1_mix l D ad d _ st ot sm ir ib wa pl ta co (sg_pr S i) hinv) (lw_V q178 q180 qs8 q13 q181) rfl rfl (by decide +kernel) hR2 hK hI hA rfl rfl rfl hl.1 rfl (Nat.le_of_ble_eq_true rfl) dX1_permute_11 (fun x1 H locs hx1 hI => ?_)
      have hI : sp_in D A _ (mdW ad d (x1 0) ot (x1 1) ir ib wa pl ta co) H locs := hI
      refine lv_aload_n hx hb dX1_permute_14 rfl (lv_at hl 0 rfl) ?_
      refine sp_callV (ci := 1) 0 F (met1_move l D ad d _ (x1 0) ot (x1 1) ir ib wa pl ta co (sg_T (sg_pr S i)) hx1) (lw_V q185 q187 qs9 q13 q188) rfl rfl (by decide +kernel) hR hK hI hA rfl rfl rfl hl.1 rfl (Nat.le_of_ble_eq_true rfl) dX1_permute_15 (fun x2 H locs hx2 hI => ?_)
      have hI : sp_in D A _ (mdW ad d (x1 0) (x2 0) (x1 1) ir ib wa pl ta co) H locs := hI
      refine lv_aload_n hx hb dX1_permute_18 rfl (lv_at hl 0 rfl) ?_
      refine sp_callV (ci := 1) 0 F (met1_join l D ad d _ (x1 0) (x2 0) (x1 1) ir ib wa pl ta co (sg_M (sg_T (sg_pr S i))) hx2) (lw_V q189 q191 qs10 q13 q192) rfl rfl (by decide +kernel) hR0 hK hI hA rfl rfl rfl hl.1 rfl (Nat.le_of_ble_eq_true rfl) dX1_permute_19 (fun x3 H locs hx3 hI => ?_)
      have hI : sp_in D A _ (mdW ad d (x3 0) (x2 0) (x1 1) ir ib wa pl ta co) H locs := hI
      refine lv_iconst (v := nI 1) hx hb dX1_permute_22 kc_1 ?_
      refine lv_istore_n (lv' := [(3, .int (nI 1)), (0, .ref (ad 0)), (1, .int (nI (sg_s (7 * i)))), (2, .int (nI i))]) hx hb dX1_permute_23 rfl hl (by decide) rfl (fun ls hl => ?_)
      refine lv_iconst (v := nI 0) hx hb dX1_permute_24 kc_0 ?_
      refine lv_istore (lv' := [(4, .int (nI 0)), (3, .int (nI 1)), (0, .ref (ad 0)), (1, .int (nI (sg_s (7 * i)))), (2, .int (nI i))]) hx hb dX1_permute_25 hl (by decide) rfl (fun ls hl => ?_)
      refine m4_b F hK c1 (fun st H locs ls hinv hI hl => ?_) 8 0 (x3 0) H locs ls (by omega) (by omega) (sg_rj0 hx3) hI (lv_sub hl [2, 3, 4, 1, 0] rfl)
      refine lv_iinc (v := (nI (i + 1))) (lv' := [(2, .int (nI (i + 1))), (0, .ref (ad 0)), (1, .int (nI (sg_s (7 * (i + 1)))))]) hx hb dX1_permute_86 hl (k := 2) rfl (ki_1 _) (by decide) rfl (fun ls hl => ?_)
      refine lv_goto (tgt := 4) hx hb dX1_permute_89 (by decide) ?_
      exact ih (i + 1) st (x2 0) (x1 1) H locs ls (by omega) (by omega) (sg_rj7 hinv) hI (lv_sub hl [1, 2, 0] rfl)
set_option maxHeartbeats 4000000 in
set_option maxRecDepth 100000 in
/-- permute: 24 rounds -/
theorem met1_permute (l : Launch) (D : va_G) (ad : Nat → Nat) (d : ClassId) (sz : Nat) (st ot sm : Nat → Int64) (ir ib wa pl ta co : Int32) (S : Nat → BitVec 64) (hS : sg_MH st S) : Met l yX1_permute (ws_ yX1_permute cX1_permute 5 none) { frames := 2, cells := 0, slots := 0, locals := 47 } (va_Pc [.ref (ad 0)] (sp_pre D [(d, .long)] sz (mdW ad d st ot sm ir ib wa pl ta co))) (va_Qv (fun x : Nat → Nat → Int64 => sg_MH (x 0) (sg_P S)) (sp_end D [(d, .long)] (va_A (mdW ad d st ot sm ir ib wa pl ta co) sz) (fun x : Nat → Nat → Int64 => mdW ad d (x 0) (x 1) (x 2) ir ib wa pl ta co)) (va_A (mdW ad d st ot sm ir ib wa pl ta co) sz)) 0 0 (va_A (mdW ad d st ot sm ir ib wa pl ta co) sz) := by
  refine Met.ofW (cc := cX1_permute) (maxL := 5) (ret := none) (by decide) rfl ?_
  intro p e s m args below meth c s₁ B hml hv
  obtain ⟨rfl, hsz, hP, hK, hD0⟩ := hv
  subst hsz
  have hts := atoms_spec (ws := ws_ yX1_permute cX1_permute 5 none) B.pre
  have F : CallFix p m c cX1_permute 5 s ([.ref (ad 0)] : List Value).toArray lw_all RX1 := ⟨B.exec, B.bytes, hml, findClass_of_methodNamed B.named, fun w h => hts w (List.mem_cons_of_mem _ h)⟩
  have hx := F.1
  have hb := F.2.1
  have hr := B.returns
  have hlocks := B.notSynchronized
  have hD := hD0.self (sz := s.heap.size)
  generalize hAe : va_A (mdW ad d st ot sm ir ib wa pl ta co) s.heap.size = A at hD ⊢
  have hA : ∀ q : Nat, s.heap.size ≤ q → A q := fun q h => by rw [← hAe]; exact Or.inr h
  have hI : sp_in D A s.heap (mdW ad d st ot sm ir ib wa pl ta co) s.heap [] := ⟨hP, hD, va_S.rf⟩
  have hl := lv_entry ([.ref (ad 0)]) (n := 5) (Nat.le_of_ble_eq_true rfl)
  rw [lg_entry_eq]
  generalize (lg_sl ([.ref (ad 0)]) ++ List.replicate (5 - (lg_sl ([.ref (ad 0)])).length) Slot.unset).toArray = ls at hl ⊢
  have hl : lv_has ls 5 [(0, .ref (ad 0))] := hl
  have hR : 1 + 1 ≤ (headSpec (ws_ yX1_permute cX1_permute 5 none) { frames := 2, cells := 0, slots := 0, locals := 47 }).room.frames ∧ 8 + (6 + 11) + 22 ≤ (headSpec (ws_ yX1_permute cX1_permute 5 none) { frames := 2, cells := 0, slots := 0, locals := 47 }).room.locals := ⟨Nat.le_of_ble_eq_true rfl, Nat.le_of_ble_eq_true rfl⟩
  refine lv_iconst (v := nI 1) hx hb dX1_permute_0 kc_1 ?_
  refine lv_istore_n (lv' := [(1, .int (nI 1)), (0, .ref (ad 0))]) hx hb dX1_permute_1 rfl hl (by decide) rfl (fun ls hl => ?_)
  refine lv_iconst (v := nI 0) hx hb dX1_permute_2 kc_0 ?_
  refine lv_istore_n (lv' := [(2, .int (nI 0)), (1, .int (nI 1)), (0, .ref (ad 0))]) hx hb dX1_permute_3 rfl hl (by decide) rfl (fun ls hl => ?_)
  refine m4_a F hK hA hR (fun st ot sm H locs ls hT hI hl => ?_) 25 0 st ot sm _ _ ls (by omega) (by omega) hS hI (lv_sub hl [2, 1, 0] rfl)
  exact W.vret hx hb hr (fun t ht hW => ⟨⟨sg_m3 st ot sm, rfl, hT, by rw [ht]; exact hI.1, va_K.moved hW.alike hK, hI.2.1⟩, hI.2.2.F ht⟩) hI.2.2.2.2 dX1_permute_92
set_option maxHeartbeats 4000000 in
set_option maxRecDepth 100000 in
/-- put: a byte joins the lanes -/
theorem met1_put (l : Launch) (D : va_G) (ad : Nat → Nat) (d : ClassId) (sz : Nat) (st ot sm : Nat → Int64) (ir ib wa pl ta co : Int32) (S : Nat → BitVec 64) (P b : Nat) (hP : P < 200) (hb8 : b < 256) (hS : sg_MH st S) : Met l yX1_put (ws_ yX1_put cX1_put 3 none) { frames := 0, cells := 0, slots := 0, locals := 0 } (va_Pc [.ref (ad 0), .int (nI b), .int (nI P)] (sp_pre D [(d, .long)] sz (mdW ad d st ot sm ir ib wa pl ta co))) (va_Qv (fun x : Nat → Nat → Int64 => sg_MH (x 0) (sg_put S P b)) (sp_end D [(d, .long)] (va_A (mdW ad d st ot sm ir ib wa pl ta co) sz) (fun x : Nat → Nat → Int64 => mdW ad d (x 0) ot sm ir ib wa pl ta co)) (va_A (mdW ad d st ot sm ir ib wa pl ta co) sz)) 0 0 (va_A (mdW ad d st ot sm ir ib wa pl ta co) sz) := by
  refine Met.ofW (cc := cX1_put) (maxL := 3) (ret := none) (by decide) rfl ?_
  intro p e s m args below meth c s₁ B hml hv
  obtain ⟨rfl, hsz, hPw, hK, hD0⟩ := hv
  subst hsz
  have hts := atoms_spec (ws := ws_ yX1_put cX1_put 3 none) B.pre
  have F : CallFix p m c cX1_put 3 s ([.ref (ad 0), .int (nI b), .int (nI P)] : List Value).toArray lw_all RX1 := ⟨B.exec, B.bytes, hml, findClass_of_methodNamed B.named, fun w h => hts w (List.mem_cons_of_mem _ h)⟩
  have hx := F.1
  have hb := F.2.1
  have hr := B.returns
  have hlocks := B.notSynchronized
  have hD := hD0.self (sz := s.heap.size)
  generalize hAe : va_A (mdW ad d st ot sm ir ib wa pl ta co) s.heap.size = A at hD ⊢
  have hA : ∀ q : Nat, s.heap.size ≤ q → A q := fun q h => by rw [← hAe]; exact Or.inr h
  have hI : sp_in D A s.heap (mdW ad d st ot sm ir ib wa pl ta co) s.heap [] := ⟨hPw, hD, va_S.rf⟩
  have hl := lv_entry ([.ref (ad 0), .int (nI b), .int (nI P)]) (n := 3) (Nat.le_of_ble_eq_true rfl)
  rw [lg_entry_eq]
  generalize (lg_sl ([.ref (ad 0), .int (nI b), .int (nI P)]) ++ List.replicate (3 - (lg_sl ([.ref (ad 0), .int (nI b), .int (nI P)])).length) Slot.unset).toArray = ls at hl ⊢
  have hl : lv_has ls 3 [(0, .ref (ad 0)), (1, .int (nI b)), (2, .int (nI P))] := hl
  refine lv_aload_n hx hb dX1_put_0 rfl (lv_at hl 0 rfl) ?_
  refine sp_get1 (v := .ref (ad 1)) F hK hI.1 rfl 6 (by decide) q132 rfl rfl dX1_put_1 ?_
  refine lv_iload_n hx hb dX1_put_4 rfl (lv_at hl 2 rfl) ?_
  refine lv_bipush (v := nI 8) hx hb dX1_put_5 kb_8 ?_
  refine sp_idiv (z := P / 8) hx hb (by omega) (by decide) (by decide) rfl dX1_put_7 ?_
  refine lv_aload_n hx hb dX1_put_8 rfl (lv_at hl 0 rfl) ?_
  refine sp_get1 (v := .ref (ad 1)) F hK hI.1 rfl 6 (by decide) q132 rfl rfl dX1_put_9 ?_
  refine lv_iload_n hx hb dX1_put_12 rfl (lv_at hl 2 rfl) ?_
  refine lv_bipush (v := nI 8) hx hb dX1_put_13 kb_8 ?_
  refine sp_idiv (z := P / 8) hx hb (by omega) (by decide) (by decide) rfl dX1_put_15 ?_
  refine sp_lald (v := (sg_w (S (P / 8)))) hx hb hK hI.1 1 rfl rfl (by decide) (by omega) (hS _ (by omega)) dX1_put_16 ?_
  refine lv_iload_n hx hb dX1_put_17 rfl (lv_at hl 1 rfl) ?_
  refine lv_i2l hx hb dX1_put_18 rfl ?_
  refine lv_bipush (v := nI 8) hx hb dX1_put_19 kb_8 ?_
  refine lv_iload_n hx hb dX1_put_21 rfl (lv_at hl 2 rfl) ?_
  refine lv_bipush (v := nI 8) hx hb dX1_put_22 kb_8 ?_
  refine sp_irem (z := P % 8) hx hb (by omega) (by decide) (by decide) rfl dX1_put_24 ?_
  refine sp_imul (z := 8 * (P % 8)) hx hb rfl dX1_put_25 ?_
  refine lv_lshl hx hb dX1_put_26 rfl ?_
  refine sp_topl (y := (sg_w (BitVec.ofNat 64 b <<< (8 * (P % 8))))) (sg_shl (by omega) (by omega)) ?_
  refine lv_lxor hx hb dX1_put_27 ?_
  refine sp_topl (y := (sg_w (S (P / 8) ^^^ (BitVec.ofNat 64 b <<< (8 * (P % 8)))))) (sg_w_xor _ _) ?_
  refine sp_last hx hb hK hI 1 rfl rfl (by decide) (by omega) dX1_put_28 (fun H locs st1 est1 hI => ?_)
  have hI : sp_in D A _ (mdW ad d st1 ot sm ir ib wa pl ta co) H locs := hI
  exact W.vret hx hb hr (fun t ht hW => ⟨⟨sg_m3 st1 st st, rfl, sg_put_w hS est1, by rw [ht]; exact hI.1, va_K.moved hW.alike hK, hI.2.1⟩, hI.2.2.F ht⟩) hI.2.2.2.2 dX1_put_29
end
section
/-! the public methods of the reference; printed by gen/m_pub1.py -/
set_option maxHeartbeats 4000000 in
set_option maxRecDepth 100000 in
/-- init -/
theorem met1_init (l : Launch) (D : va_G) (ad : Nat → Nat) (d : ClassId) (sz : Nat) (st ot sm : Nat → Int64) (ir ib wa pl ta co : Int32) (rdy q w P g : Nat) (tk : Int32) (S : Nat → BitVec 64) (hC : sg_MR (rdy, q, w, P, g, tk, S) st ir ib wa pl ta co) : Met l yX1_init_2 (ws_ yX1_init_2 cX1_init_2 1 none) { frames := 0, cells := 0, slots := 0, locals := 0 } (va_Pc [.ref (ad 0)] (sp_pre D [(d, .long)] sz (mdW ad d st ot sm ir ib wa pl ta co))) (va_Qv (fun x : (Nat → Nat → Int64) × (Nat → Int32) => sg_MR (sg_init (rdy, q, w, P, g, tk, S)) (x.1 0) (x.2 0) (x.2 1) (x.2 2) (x.2 3) (x.2 4) (x.2 5)) (sp_end D [(d, .long)] (va_A (mdW ad d st ot sm ir ib wa pl ta co) sz) (fun x : (Nat → Nat → Int64) × (Nat → Int32) => mdW ad d (x.1 0) (x.1 1) (x.1 2) (x.2 0) (x.2 1) (x.2 2) (x.2 3) (x.2 4) (x.2 5))) (va_A (mdW ad d st ot sm ir ib wa pl ta co) sz)) 0 0 (va_A (mdW ad d st ot sm ir ib wa pl ta co) sz) := by
  obtain ⟨c1, c2, c3, c4, c7⟩ := hC
  refine Met.ofW (cc := cX1_init_2) (maxL := 1) (ret := none) (by decide) rfl ?_
  intro p e s m args below meth c s₁ B hml hv
  obtain ⟨rfl, hsz, hPw, hK, hD0⟩ := hv
  subst hsz
  have hts := atoms_spec (ws := ws_ yX1_init_2 cX1_init_2 1 none) B.pre
  have F : CallFix p m c cX1_init_2 1 s ([.ref (ad 0)] : List Value).toArray lw_all RX1 := ⟨B.exec, B.bytes, hml, findClass_of_methodNamed B.named, fun w h => hts w (List.mem_cons_of_mem _ h)⟩
  have hx := F.1
  have hb := F.2.1
  have hr := B.returns
  have hlocks := B.notSynchronized
  have hD := hD0.self (sz := s.heap.size)
  generalize hAe : va_A (mdW ad d st ot sm ir ib wa pl ta co) s.heap.size = A at hD ⊢
  have hA : ∀ q : Nat, s.heap.size ≤ q → A q := fun q h => by rw [← hAe]; exact Or.inr h
  have hI : sp_in D A s.heap (mdW ad d st ot sm ir ib wa pl ta co) s.heap [] := ⟨hPw, hD, va_S.rf⟩
  have hl := lv_entry ([.ref (ad 0)]) (n := 1) (Nat.le_of_ble_eq_true rfl)
  rw [lg_entry_eq]
  generalize (lg_sl ([.ref (ad 0)]) ++ List.replicate (1 - (lg_sl ([.ref (ad 0)])).length) Slot.unset).toArray = ls at hl ⊢
  have hl : lv_has ls 1 [(0, .ref (ad 0))] := hl
  refine lv_aload_n hx hb dX1_init_2_0 rfl (lv_at hl 0 rfl) ?_
  refine lv_iconst (v := nI 1) hx hb dX1_init_2_1 kc_1 ?_
  refine sp_put1 (v := .int (nI 1)) (ty := .boolean) F hK hI rfl 0 (by decide) q126 rfl rfl (by decide +kernel) rfl rfl (Nat.le_of_ble_eq_true rfl) dX1_init_2_2 (fun H locs hI => ?_)
  have hI : sp_in D A _ (mdW ad d st ot sm (nI 1) ib wa pl ta co) H locs := hI
  exact W.vret hx hb hr (fun t ht hW => ⟨⟨(sg_m3 st ot sm, sg_g6 (nI 1) ib wa pl ta co), rfl, ⟨rfl, c2, c3, c4, c7⟩, by rw [ht]; exact hI.1, va_K.moved hW.alike hK, hI.2.1⟩, hI.2.2.F ht⟩) hI.2.2.2.2 dX1_init_2_5
set_option maxHeartbeats 4000000 in
set_option maxRecDepth 100000 in
/-- begin: the lanes are cleared -/
theorem m5_a {p : Program} {l : Launch} {e : Env} {R : Room} {s : State} {m : MethodId} {args : Array Value} {below : List Frame} {meth : Method} {c : Code} {Q : State → Prop} {D : va_G} {A : Nat → Prop} {H0 : Heap} {ad : Nat → Nat} {d : ClassId} {ot sm : Nat → Int64} {ir ib wa pl ta co : Int32} (F : CallFix p m c cX1_begin 3 s args lw_all RX1) (hK : va_K D vwCl [(d, .long)] s) 
    (kx : ∀ (st : Nat → Int64) (H : Heap) (locs : List Loc) (ls : Array Slot), sg_MH st (fun _ => 0) → sp_in D A H0 (mdW ad d st ot sm ir ib wa pl ta co) H locs → lv_has ls 3 [(0, .ref (ad 0))] → W p l e R s m args below meth c H locs 0 0 Q (F0 m 64 ls [])) :
    ∀ (n k : Nat) (st : Nat → Int64) (H : Heap) (locs : List Loc) (ls : Array Slot), k ≤ 25 → 25 < k + n → (∀ j, j < k → st j = sg_w ((fun _ => 0 : Nat → BitVec 64) j)) → sp_in D A H0 (mdW ad d st ot sm ir ib wa pl ta co) H locs → lv_has ls 3 [(0, .ref (ad 0)), (2, .int (nI k))] → W p l e R s m args below meth c H locs 0 0 Q (F0 m 45 ls []) := by
  have hx := F.1
  have hb := F.2.1
  intro n
  induction n with
  | zero =>
    intro k st H locs ls h1 h2
    exact absurd h2 (by omega)
  | succ n ih =>
    intro k st H locs ls h1 h2 hinv hI hl
    refine lv_iload_n hx hb dX1_begin_45 rfl (lv_at hl 1 rfl) ?_
    refine lv_bipush (v := nI 25) hx hb dX1_begin_46 kb_25 ?_
    refine sp_ge (tgt := 64) hx hb (by omega) (by omega)  dX1_begin_48 (by decide) (fun c1 => ?_) (fun c1 => ?_)
    · have hj : k = 25 := by omega
      subst hj
      exact kx st H locs ls hinv hI (lv_sub hl [0] rfl)
    · refine lv_aload_n hx hb dX1_begin_51 rfl (lv_at hl 0 rfl) ?_
      refine sp_get1 (v := .ref (ad 1)) F hK hI.1 rfl 6 (by decide) q132 rfl rfl dX1_begin_52 ?_
      refine lv_iload_n hx hb dX1_begin_55 rfl (lv_at hl 1 rfl) ?_
      refine lv_lconst (v := 0) hx hb dX1_begin_56 rfl ?_
      refine sp_last hx hb hK hI 1 rfl rfl (by decide) (by omega) dX1_begin_57 (fun H locs st1 est1 hI => ?_)
      have hI : sp_in D A _ (mdW ad d st1 ot sm ir ib wa pl ta co) H locs := hI
      refine lv_iinc (v := (nI (k + 1))) (lv' := [(2, .int (nI (k + 1))), (0, .ref (ad 0))]) hx hb dX1_begin_58 hl (k := 1) rfl (ki_1 _) (by decide) rfl (fun ls hl => ?_)
      refine lv_goto (tgt := 45) hx hb dX1_begin_61 (by decide) ?_
      exact ih (k + 1) st1 H locs ls (by omega) (by omega) (sg_step1w (S' := fun _ => 0) hinv (by rw [est1, sg_w_0])) hI (lv_sub hl [1, 0] rfl)
set_option maxHeartbeats 4000000 in
set_option maxRecDepth 100000 in
/-- begin -/
theorem met1_begin (l : Launch) (D : va_G) (ad : Nat → Nat) (d : ClassId) (sz : Nat) (st ot sm : Nat → Int64) (ir ib wa pl ta co : Int32) (rdy q w P g : Nat) (tk : Int32) (S : Nat → BitVec 64) (hC : sg_MR (rdy, q, w, P, g, tk, S) st ir ib wa pl ta co) (n0 : Nat) (hn0 : n0 < 2 ^ 30) (hAI : sg_AI n0 (rdy, q, w, P, g, tk, S)) (v : Int32) : Met l yX1_begin (ws_ yX1_begin cX1_begin 3 (some .boolean)) { frames := 0, cells := 0, slots := 0, locals := 0 } (va_Pc [.ref (ad 0), .int v] (sp_pre D [(d, .long)] sz (mdW ad d st ot sm ir ib wa pl ta co))) (va_Qi (fun (r : Int32) (x : (Nat → Nat → Int64) × (Nat → Int32)) => r = (sg_begin (rdy, q, w, P, g, tk, S) v).1 ∧ sg_MR (sg_begin (rdy, q, w, P, g, tk, S) v).2 (x.1 0) (x.2 0) (x.2 1) (x.2 2) (x.2 3) (x.2 4) (x.2 5)) (sp_end D [(d, .long)] (va_A (mdW ad d st ot sm ir ib wa pl ta co) sz) (fun x : (Nat → Nat → Int64) × (Nat → Int32) => mdW ad d (x.1 0) (x.1 1) (x.1 2) (x.2 0) (x.2 1) (x.2 2) (x.2 3) (x.2 4) (x.2 5))) (va_A (mdW ad d st ot sm ir ib wa pl ta co) sz)) 0 0 (va_A (mdW ad d st ot sm ir ib wa pl ta co) sz) := by
  obtain ⟨c1, c2, c3, c4, c7⟩ := hC
  subst c1
  subst c3
  subst c4
  obtain ⟨a1, a2, a3, a4, a5, a6, a7, a8⟩ := hAI
  by_cases hok : rdy ≠ 0 ∧ ¬ v < 0 ∧ v ≤ nI 1
  · obtain ⟨w1, hw1, rfl⟩ := nI_of2 (M := nI 1) (n := 1) (by decide) hok.2.1 hok.2.2
    have hf : sg_begin (rdy, q, w, P, g, ta, S) (nI w1) = (nI 1, (rdy, 1, w1, 0, 0, nI 0, fun _ => 0)) := by rw [sg_begin, if_pos hok, nI_clamp (by omega)]
    refine Met.ofW (cc := cX1_begin) (maxL := 3) (ret := (some .boolean)) (by decide) rfl ?_
    intro p e s m args below meth c s₁ B hml hv
    obtain ⟨rfl, hsz, hPw, hK, hD0⟩ := hv
    subst hsz
    have hts := atoms_spec (ws := ws_ yX1_begin cX1_begin 3 (some .boolean)) B.pre
    have F : CallFix p m c cX1_begin 3 s ([.ref (ad 0), .int (nI w1)] : List Value).toArray lw_all RX1 := ⟨B.exec, B.bytes, hml, findClass_of_methodNamed B.named, fun w h => hts w (List.mem_cons_of_mem _ h)⟩
    have hx := F.1
    have hb := F.2.1
    have hr := B.returns
    have hlocks := B.notSynchronized
    have hD := hD0.self (sz := s.heap.size)
    generalize hAe : va_A (mdW ad d st ot sm (nI rdy) ib wa pl ta (nI g)) s.heap.size = A at hD ⊢
    have hA : ∀ q : Nat, s.heap.size ≤ q → A q := fun q h => by rw [← hAe]; exact Or.inr h
    have hI : sp_in D A s.heap (mdW ad d st ot sm (nI rdy) ib wa pl ta (nI g)) s.heap [] := ⟨hPw, hD, va_S.rf⟩
    have hl := lv_entry ([.ref (ad 0), .int (nI w1)]) (n := 3) (Nat.le_of_ble_eq_true rfl)
    rw [lg_entry_eq]
    generalize (lg_sl ([.ref (ad 0), .int (nI w1)]) ++ List.replicate (3 - (lg_sl ([.ref (ad 0), .int (nI w1)])).length) Slot.unset).toArray = ls at hl ⊢
    have hl : lv_has ls 3 [(0, .ref (ad 0)), (1, .int (nI w1))] := hl
    refine lv_aload_n hx hb dX1_begin_0 rfl (lv_at hl 0 rfl) ?_
    refine sp_get1 (v := .int (nI rdy)) F hK hI.1 rfl 0 (by decide) q126 rfl rfl dX1_begin_1 ?_
    refine sp_ife (tgt := 16) hx hb (by omega) dX1_begin_4 (by decide) (fun d1 => ?_) (fun d1 => ?_)
    · exact absurd hok.1 (fun h => h d1)
    · refine lv_iload_n hx hb dX1_begin_7 rfl (lv_at hl 1 rfl) ?_
      refine lv_if_lt (tgt := 16) hx hb dX1_begin_8 (by decide) (fun d2 => ?_) (fun d2 => ?_)
      · exact absurd d2 (nI_pos (by omega))
      · refine lv_iload_n hx hb dX1_begin_11 rfl (lv_at hl 1 rfl) ?_
        refine lv_iconst (v := nI 1) hx hb dX1_begin_12 kc_1 ?_
        refine sp_le (tgt := 18) hx hb (by omega) (by omega)  dX1_begin_13 (by decide) (fun d3 => ?_) (fun d3 => ?_)
        · refine lv_aload_n hx hb dX1_begin_18 rfl (lv_at hl 0 rfl) ?_
          refine lv_iconst (v := nI 1) hx hb dX1_begin_19 kc_1 ?_
          refine sp_put1 (v := .int (nI 1)) (ty := .boolean) F hK hI rfl 1 (by decide) q127 rfl rfl (by decide +kernel) rfl rfl (Nat.le_of_ble_eq_true rfl) dX1_begin_20 (fun H locs hI => ?_)
          have hI : sp_in D A _ (mdW ad d st ot sm (nI rdy) (nI 1) wa pl ta (nI g)) H locs := hI
          refine lv_aload_n hx hb dX1_begin_23 rfl (lv_at hl 0 rfl) ?_
          refine lv_iload_n hx hb dX1_begin_24 rfl (lv_at hl 1 rfl) ?_
          refine sp_put1 (v := .int (nI w1)) (ty := .int) F hK hI rfl 2 (by decide) q128 rfl rfl (by decide +kernel) rfl rfl (Nat.le_of_ble_eq_true rfl) dX1_begin_25 (fun H locs hI => ?_)
          have hI : sp_in D A _ (mdW ad d st ot sm (nI rdy) (nI 1) (nI w1) pl ta (nI g)) H locs := hI
          refine lv_aload_n hx hb dX1_begin_28 rfl (lv_at hl 0 rfl) ?_
          refine lv_iconst (v := nI 0) hx hb dX1_begin_29 kc_0 ?_
          refine sp_put1 (v := .int (nI 0)) (ty := .int) F hK hI rfl 3 (by decide) q129 rfl rfl (by decide +kernel) rfl rfl (Nat.le_of_ble_eq_true rfl) dX1_begin_30 (fun H locs hI => ?_)
          have hI : sp_in D A _ (mdW ad d st ot sm (nI rdy) (nI 1) (nI w1) (nI 0) ta (nI g)) H locs := hI
          refine lv_aload_n hx hb dX1_begin_33 rfl (lv_at hl 0 rfl) ?_
          refine lv_iconst (v := nI 0) hx hb dX1_begin_34 kc_0 ?_
          refine sp_put1 (v := .int (nI 0)) (ty := .int) F hK hI rfl 4 (by decide) q130 rfl rfl (by decide +kernel) rfl rfl (Nat.le_of_ble_eq_true rfl) dX1_begin_35 (fun H locs hI => ?_)
          have hI : sp_in D A _ (mdW ad d st ot sm (nI rdy) (nI 1) (nI w1) (nI 0) (nI 0) (nI g)) H locs := hI
          refine lv_aload_n hx hb dX1_begin_38 rfl (lv_at hl 0 rfl) ?_
          refine lv_iconst (v := nI 0) hx hb dX1_begin_39 kc_0 ?_
          refine sp_put1 (v := .int (nI 0)) (ty := .int) F hK hI rfl 5 (by decide) q131 rfl rfl (by decide +kernel) rfl rfl (Nat.le_of_ble_eq_true rfl) dX1_begin_40 (fun H locs hI => ?_)
          have hI : sp_in D A _ (mdW ad d st ot sm (nI rdy) (nI 1) (nI w1) (nI 0) (nI 0) (nI 0)) H locs := hI
          refine lv_iconst (v := nI 0) hx hb dX1_begin_43 kc_0 ?_
          refine lv_istore_n (lv' := [(2, .int (nI 0)), (0, .ref (ad 0)), (1, .int (nI w1))]) hx hb dX1_begin_44 rfl hl (by decide) rfl (fun ls hl => ?_)
          refine m5_a F hK (fun st H locs ls hz hI hl => ?_) 26 0 st _ _ ls (by omega) (by omega) (fun j h => absurd h (by omega)) hI (lv_sub hl [1, 0] rfl)
          refine lv_iconst (v := nI 1) hx hb dX1_begin_64 kc_1 ?_
          exact W.zret hx hb hr rfl (fun t ht hW => ⟨⟨_, (sg_m3 st ot sm, sg_g6 (nI rdy) (nI 1) (nI w1) (nI 0) (nI 0) (nI 0)), rfl, by rw [hf]; exact ⟨rfl, rfl, rfl, rfl, rfl, fun _ => ⟨rfl, rfl, hz⟩⟩, by rw [ht]; exact hI.1, va_K.moved hW.alike hK, hI.2.1⟩, hI.2.2.F ht⟩) hI.2.2.2.2 dX1_begin_65
        · exact absurd d3 (by omega)
  · have hf : sg_begin (rdy, q, w, P, g, ta, S) v = (nI 0, (rdy, q, w, P, g, ta, S)) := by rw [sg_begin, if_neg hok]
    refine Met.ofW (cc := cX1_begin) (maxL := 3) (ret := (some .boolean)) (by decide) rfl ?_
    intro p e s m args below meth c s₁ B hml hv
    obtain ⟨rfl, hsz, hPw, hK, hD0⟩ := hv
    subst hsz
    have hts := atoms_spec (ws := ws_ yX1_begin cX1_begin 3 (some .boolean)) B.pre
    have F : CallFix p m c cX1_begin 3 s ([.ref (ad 0), .int v] : List Value).toArray lw_all RX1 := ⟨B.exec, B.bytes, hml, findClass_of_methodNamed B.named, fun w h => hts w (List.mem_cons_of_mem _ h)⟩
    have hx := F.1
    have hb := F.2.1
    have hr := B.returns
    have hlocks := B.notSynchronized
    have hD := hD0.self (sz := s.heap.size)
    generalize hAe : va_A (mdW ad d st ot sm (nI rdy) ib wa pl ta (nI g)) s.heap.size = A at hD ⊢
    have hA : ∀ q : Nat, s.heap.size ≤ q → A q := fun q h => by rw [← hAe]; exact Or.inr h
    have hI : sp_in D A s.heap (mdW ad d st ot sm (nI rdy) ib wa pl ta (nI g)) s.heap [] := ⟨hPw, hD, va_S.rf⟩
    have hl := lv_entry ([.ref (ad 0), .int v]) (n := 3) (Nat.le_of_ble_eq_true rfl)
    rw [lg_entry_eq]
    generalize (lg_sl ([.ref (ad 0), .int v]) ++ List.replicate (3 - (lg_sl ([.ref (ad 0), .int v])).length) Slot.unset).toArray = ls at hl ⊢
    have hl : lv_has ls 3 [(0, .ref (ad 0)), (1, .int v)] := hl
    refine lv_aload_n hx hb dX1_begin_0 rfl (lv_at hl 0 rfl) ?_
    refine sp_get1 (v := .int (nI rdy)) F hK hI.1 rfl 0 (by decide) q126 rfl rfl dX1_begin_1 ?_
    refine sp_ife (tgt := 16) hx hb (by omega) dX1_begin_4 (by decide) (fun d1 => ?_) (fun d1 => ?_)
    · refine lv_iconst (v := nI 0) hx hb dX1_begin_16 kc_0 ?_
      exact W.zret hx hb hr rfl (fun t ht hW => ⟨⟨_, (sg_m3 st ot sm, sg_g6 (nI rdy) ib wa pl ta (nI g)), rfl, by rw [hf]; exact ⟨rfl, rfl, c2, rfl, rfl, c7⟩, by rw [ht]; exact hI.1, va_K.moved hW.alike hK, hI.2.1⟩, hI.2.2.F ht⟩) hI.2.2.2.2 dX1_begin_17
    · refine lv_iload_n hx hb dX1_begin_7 rfl (lv_at hl 1 rfl) ?_
      refine lv_if_lt (tgt := 16) hx hb dX1_begin_8 (by decide) (fun d2 => ?_) (fun d2 => ?_)
      · refine lv_iconst (v := nI 0) hx hb dX1_begin_16 kc_0 ?_
        exact W.zret hx hb hr rfl (fun t ht hW => ⟨⟨_, (sg_m3 st ot sm, sg_g6 (nI rdy) ib wa pl ta (nI g)), rfl, by rw [hf]; exact ⟨rfl, rfl, c2, rfl, rfl, c7⟩, by rw [ht]; exact hI.1, va_K.moved hW.alike hK, hI.2.1⟩, hI.2.2.F ht⟩) hI.2.2.2.2 dX1_begin_17
      · refine lv_iload_n hx hb dX1_begin_11 rfl (lv_at hl 1 rfl) ?_
        refine lv_iconst (v := nI 1) hx hb dX1_begin_12 kc_1 ?_
        refine lv_icmp_le (tgt := 18) hx hb dX1_begin_13 (by decide) (fun d3 => ?_) (fun d3 => ?_)
        · exact absurd ⟨d1, d2, d3⟩ hok
        · refine lv_iconst (v := nI 0) hx hb dX1_begin_16 kc_0 ?_
          exact W.zret hx hb hr rfl (fun t ht hW => ⟨⟨_, (sg_m3 st ot sm, sg_g6 (nI rdy) ib wa pl ta (nI g)), rfl, by rw [hf]; exact ⟨rfl, rfl, c2, rfl, rfl, c7⟩, by rw [ht]; exact hI.1, va_K.moved hW.alike hK, hI.2.1⟩, hI.2.2.F ht⟩) hI.2.2.2.2 dX1_begin_17
set_option maxHeartbeats 4000000 in
set_option maxRecDepth 100000 in
/-- absorb -/
theorem met1_absorb (l : Launch) (D : va_G) (ad : Nat → Nat) (d : ClassId) (sz : Nat) (st ot sm : Nat → Int64) (ir ib wa pl ta co : Int32) (rdy q w P g : Nat) (tk : Int32) (S : Nat → BitVec 64) (hC : sg_MR (rdy, q, w, P, g, tk, S) st ir ib wa pl ta co) (n0 : Nat) (hn0 : n0 < 2 ^ 30) (hAI : sg_AI n0 (rdy, q, w, P, g, tk, S)) (v : Int32) : Met l yX1_absorb (ws_ yX1_absorb cX1_absorb 2 (some .boolean)) { frames := 3, cells := 0, slots := 0, locals := 71 } (va_Pc [.ref (ad 0), .int v] (sp_pre D [(d, .long)] sz (mdW ad d st ot sm ir ib wa pl ta co))) (va_Qi (fun (r : Int32) (x : (Nat → Nat → Int64) × (Nat → Int32)) => r = (sg_absorb (rdy, q, w, P, g, tk, S) v).1 ∧ sg_MR (sg_absorb (rdy, q, w, P, g, tk, S) v).2 (x.1 0) (x.2 0) (x.2 1) (x.2 2) (x.2 3) (x.2 4) (x.2 5)) (sp_end D [(d, .long)] (va_A (mdW ad d st ot sm ir ib wa pl ta co) sz) (fun x : (Nat → Nat → Int64) × (Nat → Int32) => mdW ad d (x.1 0) (x.1 1) (x.1 2) (x.2 0) (x.2 1) (x.2 2) (x.2 3) (x.2 4) (x.2 5))) (va_A (mdW ad d st ot sm ir ib wa pl ta co) sz)) 0 0 (va_A (mdW ad d st ot sm ir ib wa pl ta co) sz) := by
  obtain ⟨c1, c2, c3, c4, c7⟩ := hC
  subst c1
  subst c3
  subst c4
  obtain ⟨a1, a2, a3, a4, a5, a6, a7, a8⟩ := hAI
  by_cases hok : q = 1 ∧ ¬ v < 0 ∧ v ≤ nI 255
  · obtain ⟨b, hb5, rfl⟩ := nI_of2 (M := nI 255) (n := 255) (by decide) hok.2.1 hok.2.2
    obtain ⟨rfl, -⟩ := id hok
    have c2 : ib = nI 1 := c2
    subst c2
    obtain ⟨k1, k2, hS⟩ := c7 (by omega)
    subst k1
    subst k2
    have hrt := sg_rate_in w
    obtain ⟨hg0, hPr⟩ := a6 rfl
    refine Met.ofW (cc := cX1_absorb) (maxL := 2) (ret := (some .boolean)) (by decide) rfl ?_
    intro p e s m args below meth c s₁ B hml hv
    obtain ⟨rfl, hsz, hPw, hK, hD0⟩ := hv
    subst hsz
    have hts := atoms_spec (ws := ws_ yX1_absorb cX1_absorb 2 (some .boolean)) B.pre
    have F : CallFix p m c cX1_absorb 2 s ([.ref (ad 0), .int (nI b)] : List Value).toArray lw_all RX1 := ⟨B.exec, B.bytes, hml, findClass_of_methodNamed B.named, fun w h => hts w (List.mem_cons_of_mem _ h)⟩
    have hx := F.1
    have hb := F.2.1
    have hr := B.returns
    have hlocks := B.notSynchronized
    have hD := hD0.self (sz := s.heap.size)
    generalize hAe : va_A (mdW ad d st ot sm (nI rdy) (nI 1) (nI w) (nI P) ta (nI g)) s.heap.size = A at hD ⊢
    have hA : ∀ q : Nat, s.heap.size ≤ q → A q := fun q h => by rw [← hAe]; exact Or.inr h
    have hI : sp_in D A s.heap (mdW ad d st ot sm (nI rdy) (nI 1) (nI w) (nI P) ta (nI g)) s.heap [] := ⟨hPw, hD, va_S.rf⟩
    have hl := lv_entry ([.ref (ad 0), .int (nI b)]) (n := 2) (Nat.le_of_ble_eq_true rfl)
    rw [lg_entry_eq]
    generalize (lg_sl ([.ref (ad 0), .int (nI b)]) ++ List.replicate (2 - (lg_sl ([.ref (ad 0), .int (nI b)])).length) Slot.unset).toArray = ls at hl ⊢
    have hl : lv_has ls 2 [(0, .ref (ad 0)), (1, .int (nI b))] := hl
    have hR : 2 + 1 ≤ (headSpec (ws_ yX1_absorb cX1_absorb 2 (some .boolean)) { frames := 3, cells := 0, slots := 0, locals := 71 }).room.frames ∧ 8 + (5 + 11) + 47 ≤ (headSpec (ws_ yX1_absorb cX1_absorb 2 (some .boolean)) { frames := 3, cells := 0, slots := 0, locals := 71 }).room.locals := ⟨Nat.le_of_ble_eq_true rfl, Nat.le_of_ble_eq_true rfl⟩
    have hRp : 0 + 1 ≤ (headSpec (ws_ yX1_absorb cX1_absorb 2 (some .boolean)) { frames := 3, cells := 0, slots := 0, locals := 71 }).room.frames ∧ 8 + (3 + 11) + 0 ≤ (headSpec (ws_ yX1_absorb cX1_absorb 2 (some .boolean)) { frames := 3, cells := 0, slots := 0, locals := 71 }).room.locals := ⟨Nat.le_of_ble_eq_true rfl, Nat.le_of_ble_eq_true rfl⟩
    have hRr : 0 + 1 ≤ (headSpec (ws_ yX1_absorb cX1_absorb 2 (some .boolean)) { frames := 3, cells := 0, slots := 0, locals := 71 }).room.frames ∧ 8 + (1 + 11) + 0 ≤ (headSpec (ws_ yX1_absorb cX1_absorb 2 (some .boolean)) { frames := 3, cells := 0, slots := 0, locals := 71 }).room.locals := ⟨Nat.le_of_ble_eq_true rfl, Nat.le_of_ble_eq_true rfl⟩
    refine lv_aload_n hx hb dX1_absorb_0 rfl (lv_at hl 0 rfl) ?_
    refine sp_get1 (v := .int (nI 1)) F hK hI.1 rfl 1 (by decide) q127 rfl rfl dX1_absorb_1 ?_
    refine sp_ife (tgt := 25) hx hb (by omega) dX1_absorb_4 (by decide) (fun d1 => ?_) (fun d1 => ?_)
    · exact absurd d1 (by decide)
    · refine lv_aload_n hx hb dX1_absorb_7 rfl (lv_at hl 0 rfl) ?_
      refine sp_get1 (v := .int (nI g)) F hK hI.1 rfl 5 (by decide) q131 rfl rfl dX1_absorb_8 ?_
      refine sp_ifg (tgt := 25) hx hb (by omega) dX1_absorb_11 (by decide) (fun d2 => ?_) (fun d2 => ?_)
      · exact absurd d2 (by omega)
      · refine lv_iload_n hx hb dX1_absorb_14 rfl (lv_at hl 1 rfl) ?_
        refine lv_if_lt (tgt := 25) hx hb dX1_absorb_15 (by decide) (fun d3 => ?_) (fun d3 => ?_)
        · exact absurd d3 (nI_pos (by omega))
        · refine lv_iload_n hx hb dX1_absorb_18 rfl (lv_at hl 1 rfl) ?_
          refine lv_sipush (v := nI 255) hx hb dX1_absorb_19 ks_255 ?_
          refine sp_le (tgt := 27) hx hb (by omega) (by omega)  dX1_absorb_22 (by decide) (fun d4 => ?_) (fun d4 => ?_)
          · refine lv_aload_n hx hb dX1_absorb_27 rfl (lv_at hl 0 rfl) ?_
            refine lv_iload_n hx hb dX1_absorb_28 rfl (lv_at hl 1 rfl) ?_
            refine lv_aload_n hx hb dX1_absorb_29 rfl (lv_at hl 0 rfl) ?_
            refine sp_get1 (v := .int (nI P)) F hK hI.1 rfl 3 (by decide) q129 rfl rfl dX1_absorb_30 ?_
            refine sp_callV (ci := 1) 2 F (met1_put l D ad d _ st ot sm (nI rdy) (nI 1) (nI w) (nI P) ta (nI g) S P b (by omega) (by omega) hS) (lw_V q167 q169 qs6 q13 q170) rfl rfl (by decide +kernel) hRp hK hI hA rfl rfl rfl hl.1 rfl (Nat.le_of_ble_eq_true rfl) dX1_absorb_33 (fun x1 H locs hx1 hI => ?_)
            have hI : sp_in D A _ (mdW ad d (x1 0) ot sm (nI rdy) (nI 1) (nI w) (nI P) ta (nI g)) H locs := hI
            refine lv_aload_n hx hb dX1_absorb_36 rfl (lv_at hl 0 rfl) ?_
            refine lv_dup hx hb dX1_absorb_37 rfl ?_
            refine sp_get1 (v := .int (nI P)) F hK hI.1 rfl 3 (by decide) q129 rfl rfl dX1_absorb_38 ?_
            refine lv_iconst (v := nI 1) hx hb dX1_absorb_41 kc_1 ?_
            refine sp_iadd (z := P + 1) hx hb rfl dX1_absorb_42 ?_
            refine sp_put1 (v := .int (nI (P + 1))) (ty := .int) F hK hI rfl 3 (by decide) q129 rfl rfl (by decide +kernel) rfl rfl (Nat.le_of_ble_eq_true rfl) dX1_absorb_43 (fun H locs hI => ?_)
            have hI : sp_in D A _ (mdW ad d (x1 0) ot sm (nI rdy) (nI 1) (nI w) (nI (P + 1)) ta (nI g)) H locs := hI
            refine lv_aload_n hx hb dX1_absorb_46 rfl (lv_at hl 0 rfl) ?_
            refine lv_dup hx hb dX1_absorb_47 rfl ?_
            refine sp_get1 (v := .int ta) F hK hI.1 rfl 4 (by decide) q130 rfl rfl dX1_absorb_48 ?_
            refine lv_iconst (v := nI 1) hx hb dX1_absorb_51 kc_1 ?_
            refine lv_iadd hx hb dX1_absorb_52 ?_
            refine sp_put1 (v := .int (ta + (nI 1))) (ty := .int) F hK hI rfl 4 (by decide) q130 rfl rfl (by decide +kernel) rfl rfl (Nat.le_of_ble_eq_true rfl) dX1_absorb_53 (fun H locs hI => ?_)
            have hI : sp_in D A _ (mdW ad d (x1 0) ot sm (nI rdy) (nI 1) (nI w) (nI (P + 1)) (ta + (nI 1)) (nI g)) H locs := hI
            refine lv_aload_n hx hb dX1_absorb_56 rfl (lv_at hl 0 rfl) ?_
            refine sp_get1 (v := .int (nI (P + 1))) F hK hI.1 rfl 3 (by decide) q129 rfl rfl dX1_absorb_57 ?_
            refine lv_aload_n hx hb dX1_absorb_60 rfl (lv_at hl 0 rfl) ?_
            refine sp_get1 (v := .int (nI w)) F hK hI.1 rfl 2 (by decide) q128 rfl rfl dX1_absorb_61 ?_
            refine sp_callSi 1 F (met_rate l w (by omega)) (lw_S q171 q172 q13 q173) rfl rfl (by decide +kernel) hRr hI rfl hl.1 rfl (Nat.le_of_ble_eq_true rfl) dX1_absorb_64 (fun r H locs hr1 hI => ?_)
            refine sp_topi (y := (nI (sg_rate w))) hr1 ?_
            refine sp_ne (tgt := 79) hx hb (by omega) (by omega)  dX1_absorb_67 (by decide) (fun d5 => ?_) (fun d5 => ?_)
            · refine lv_iconst (v := nI 1) hx hb dX1_absorb_79 kc_1 ?_
              have hf : sg_absorb (rdy, 1, w, P, g, ta, S) (nI b) = (nI 1, (rdy, 1, w, P + 1, g, ta + nI 1, sg_put S P b)) := by rw [sg_absorb, if_pos hok, if_neg d5, nI_clamp (by omega)]
              exact W.zret hx hb hr rfl (fun t ht hW => ⟨⟨_, (sg_m3 (x1 0) ot sm, sg_g6 (nI rdy) (nI 1) (nI w) (nI (P + 1)) (ta + (nI 1)) (nI g)), rfl, by rw [hf]; exact ⟨rfl, rfl, rfl, rfl, rfl, fun _ => ⟨rfl, rfl, hx1⟩⟩, by rw [ht]; exact hI.1, va_K.moved hW.alike hK, hI.2.1⟩, hI.2.2.F ht⟩) hI.2.2.2.2 dX1_absorb_80
            · refine lv_aload_n hx hb dX1_absorb_70 rfl (lv_at hl 0 rfl) ?_
              refine sp_callV (ci := 1) 0 F (met1_permute l D ad d _ (x1 0) ot sm (nI rdy) (nI 1) (nI w) (nI (P + 1)) (ta + (nI 1)) (nI g) (sg_put S P b) hx1) (lw_V q174 q176 qs7 q13 q177) rfl rfl (by decide +kernel) hR hK hI hA rfl rfl rfl hl.1 rfl (Nat.le_of_ble_eq_true rfl) dX1_absorb_71 (fun x2 H locs hx2 hI => ?_)
              have hI : sp_in D A _ (mdW ad d (x2 0) (x2 1) (x2 2) (nI rdy) (nI 1) (nI w) (nI (P + 1)) (ta + (nI 1)) (nI g)) H locs := hI
              refine lv_aload_n hx hb dX1_absorb_74 rfl (lv_at hl 0 rfl) ?_
              refine lv_iconst (v := nI 0) hx hb dX1_absorb_75 kc_0 ?_
              refine sp_put1 (v := .int (nI 0)) (ty := .int) F hK hI rfl 3 (by decide) q129 rfl rfl (by decide +kernel) rfl rfl (Nat.le_of_ble_eq_true rfl) dX1_absorb_76 (fun H locs hI => ?_)
              have hI : sp_in D A _ (mdW ad d (x2 0) (x2 1) (x2 2) (nI rdy) (nI 1) (nI w) (nI 0) (ta + (nI 1)) (nI g)) H locs := hI
              refine lv_iconst (v := nI 1) hx hb dX1_absorb_79 kc_1 ?_
              have hf : sg_absorb (rdy, 1, w, P, g, ta, S) (nI b) = (nI 1, (rdy, 1, w, 0, g, ta + nI 1, sg_P (sg_put S P b))) := by rw [sg_absorb, if_pos hok, if_pos d5, nI_clamp (by omega)]
              exact W.zret hx hb hr rfl (fun t ht hW => ⟨⟨_, (sg_m3 (x2 0) (x2 1) (x2 2), sg_g6 (nI rdy) (nI 1) (nI w) (nI 0) (ta + (nI 1)) (nI g)), rfl, by rw [hf]; exact ⟨rfl, rfl, rfl, rfl, rfl, fun _ => ⟨rfl, rfl, hx2⟩⟩, by rw [ht]; exact hI.1, va_K.moved hW.alike hK, hI.2.1⟩, hI.2.2.F ht⟩) hI.2.2.2.2 dX1_absorb_80
          · exact absurd d4 (by omega)
  · have hf : sg_absorb (rdy, q, w, P, g, ta, S) v = (nI 0, (rdy, q, w, P, g, ta, S)) := by rw [sg_absorb, if_neg hok]
    by_cases hq : q = 0
    · have c9 : ib = nI 0 := by rw [if_pos hq] at c2; exact c2
      refine Met.ofW (cc := cX1_absorb) (maxL := 2) (ret := (some .boolean)) (by decide) rfl ?_
      intro p e s m args below meth c s₁ B hml hv
      obtain ⟨rfl, hsz, hPw, hK, hD0⟩ := hv
      subst hsz
      have hts := atoms_spec (ws := ws_ yX1_absorb cX1_absorb 2 (some .boolean)) B.pre
      have F : CallFix p m c cX1_absorb 2 s ([.ref (ad 0), .int v] : List Value).toArray lw_all RX1 := ⟨B.exec, B.bytes, hml, findClass_of_methodNamed B.named, fun w h => hts w (List.mem_cons_of_mem _ h)⟩
      have hx := F.1
      have hb := F.2.1
      have hr := B.returns
      have hlocks := B.notSynchronized
      have hD := hD0.self (sz := s.heap.size)
      generalize hAe : va_A (mdW ad d st ot sm (nI rdy) ib wa pl ta (nI g)) s.heap.size = A at hD ⊢
      have hA : ∀ q : Nat, s.heap.size ≤ q → A q := fun q h => by rw [← hAe]; exact Or.inr h
      have hI : sp_in D A s.heap (mdW ad d st ot sm (nI rdy) ib wa pl ta (nI g)) s.heap [] := ⟨hPw, hD, va_S.rf⟩
      have hl := lv_entry ([.ref (ad 0), .int v]) (n := 2) (Nat.le_of_ble_eq_true rfl)
      rw [lg_entry_eq]
      generalize (lg_sl ([.ref (ad 0), .int v]) ++ List.replicate (2 - (lg_sl ([.ref (ad 0), .int v])).length) Slot.unset).toArray = ls at hl ⊢
      have hl : lv_has ls 2 [(0, .ref (ad 0)), (1, .int v)] := hl
      refine lv_aload_n hx hb dX1_absorb_0 rfl (lv_at hl 0 rfl) ?_
      refine sp_get1 (v := .int ib) F hK hI.1 rfl 1 (by decide) q127 rfl rfl dX1_absorb_1 ?_
      refine sp_topi (y := (nI 0)) c9 ?_
      refine sp_ife (tgt := 25) hx hb (by omega) dX1_absorb_4 (by decide) (fun d1 => ?_) (fun d1 => ?_)
      · refine lv_iconst (v := nI 0) hx hb dX1_absorb_25 kc_0 ?_
        exact W.zret hx hb hr rfl (fun t ht hW => ⟨⟨_, (sg_m3 st ot sm, sg_g6 (nI rdy) ib wa pl ta (nI g)), rfl, by rw [hf]; exact ⟨rfl, rfl, c2, rfl, rfl, c7⟩, by rw [ht]; exact hI.1, va_K.moved hW.alike hK, hI.2.1⟩, hI.2.2.F ht⟩) hI.2.2.2.2 dX1_absorb_26
      · exact absurd rfl d1
    · have c9 : ib = nI 1 := by rw [if_neg hq] at c2; exact c2
      refine Met.ofW (cc := cX1_absorb) (maxL := 2) (ret := (some .boolean)) (by decide) rfl ?_
      intro p e s m args below meth c s₁ B hml hv
      obtain ⟨rfl, hsz, hPw, hK, hD0⟩ := hv
      subst hsz
      have hts := atoms_spec (ws := ws_ yX1_absorb cX1_absorb 2 (some .boolean)) B.pre
      have F : CallFix p m c cX1_absorb 2 s ([.ref (ad 0), .int v] : List Value).toArray lw_all RX1 := ⟨B.exec, B.bytes, hml, findClass_of_methodNamed B.named, fun w h => hts w (List.mem_cons_of_mem _ h)⟩
      have hx := F.1
      have hb := F.2.1
      have hr := B.returns
      have hlocks := B.notSynchronized
      have hD := hD0.self (sz := s.heap.size)
      generalize hAe : va_A (mdW ad d st ot sm (nI rdy) ib wa pl ta (nI g)) s.heap.size = A at hD ⊢
      have hA : ∀ q : Nat, s.heap.size ≤ q → A q := fun q h => by rw [← hAe]; exact Or.inr h
      have hI : sp_in D A s.heap (mdW ad d st ot sm (nI rdy) ib wa pl ta (nI g)) s.heap [] := ⟨hPw, hD, va_S.rf⟩
      have hl := lv_entry ([.ref (ad 0), .int v]) (n := 2) (Nat.le_of_ble_eq_true rfl)
      rw [lg_entry_eq]
      generalize (lg_sl ([.ref (ad 0), .int v]) ++ List.replicate (2 - (lg_sl ([.ref (ad 0), .int v])).length) Slot.unset).toArray = ls at hl ⊢
      have hl : lv_has ls 2 [(0, .ref (ad 0)), (1, .int v)] := hl
      refine lv_aload_n hx hb dX1_absorb_0 rfl (lv_at hl 0 rfl) ?_
      refine sp_get1 (v := .int ib) F hK hI.1 rfl 1 (by decide) q127 rfl rfl dX1_absorb_1 ?_
      refine sp_topi (y := (nI 1)) c9 ?_
      refine sp_ife (tgt := 25) hx hb (by omega) dX1_absorb_4 (by decide) (fun d1 => ?_) (fun d1 => ?_)
      · exact absurd d1 (by decide)
      · refine lv_aload_n hx hb dX1_absorb_7 rfl (lv_at hl 0 rfl) ?_
        refine sp_get1 (v := .int (nI g)) F hK hI.1 rfl 5 (by decide) q131 rfl rfl dX1_absorb_8 ?_
        refine sp_ifg (tgt := 25) hx hb (by omega) dX1_absorb_11 (by decide) (fun d2 => ?_) (fun d2 => ?_)
        · refine lv_iconst (v := nI 0) hx hb dX1_absorb_25 kc_0 ?_
          exact W.zret hx hb hr rfl (fun t ht hW => ⟨⟨_, (sg_m3 st ot sm, sg_g6 (nI rdy) ib wa pl ta (nI g)), rfl, by rw [hf]; exact ⟨rfl, rfl, c2, rfl, rfl, c7⟩, by rw [ht]; exact hI.1, va_K.moved hW.alike hK, hI.2.1⟩, hI.2.2.F ht⟩) hI.2.2.2.2 dX1_absorb_26
        · refine lv_iload_n hx hb dX1_absorb_14 rfl (lv_at hl 1 rfl) ?_
          refine lv_if_lt (tgt := 25) hx hb dX1_absorb_15 (by decide) (fun d3 => ?_) (fun d3 => ?_)
          · refine lv_iconst (v := nI 0) hx hb dX1_absorb_25 kc_0 ?_
            exact W.zret hx hb hr rfl (fun t ht hW => ⟨⟨_, (sg_m3 st ot sm, sg_g6 (nI rdy) ib wa pl ta (nI g)), rfl, by rw [hf]; exact ⟨rfl, rfl, c2, rfl, rfl, c7⟩, by rw [ht]; exact hI.1, va_K.moved hW.alike hK, hI.2.1⟩, hI.2.2.F ht⟩) hI.2.2.2.2 dX1_absorb_26
          · refine lv_iload_n hx hb dX1_absorb_18 rfl (lv_at hl 1 rfl) ?_
            refine lv_sipush (v := nI 255) hx hb dX1_absorb_19 ks_255 ?_
            refine lv_icmp_le (tgt := 27) hx hb dX1_absorb_22 (by decide) (fun d4 => ?_) (fun d4 => ?_)
            · exact absurd ⟨by omega, d3, d4⟩ hok
            · refine lv_iconst (v := nI 0) hx hb dX1_absorb_25 kc_0 ?_
              exact W.zret hx hb hr rfl (fun t ht hW => ⟨⟨_, (sg_m3 st ot sm, sg_g6 (nI rdy) ib wa pl ta (nI g)), rfl, by rw [hf]; exact ⟨rfl, rfl, c2, rfl, rfl, c7⟩, by rw [ht]; exact hI.1, va_K.moved hW.alike hK, hI.2.1⟩, hI.2.2.F ht⟩) hI.2.2.2.2 dX1_absorb_26
set_option maxHeartbeats 4000000 in
set_option maxRecDepth 100000 in
/-- squeeze -/
theorem met1_squeeze (l : Launch) (D : va_G) (ad : Nat → Nat) (d : ClassId) (sz : Nat) (st ot sm : Nat → Int64) (ir ib wa pl ta co : Int32) (rdy q w P g : Nat) (tk : Int32) (S : Nat → BitVec 64) (hC : sg_MR (rdy, q, w, P, g, tk, S) st ir ib wa pl ta co) (n0 : Nat) (hn0 : n0 < 2 ^ 30) (hAI : sg_AI n0 (rdy, q, w, P, g, tk, S)) : Met l yX1_squeeze (ws_ yX1_squeeze cX1_squeeze 2 (some .int)) { frames := 3, cells := 0, slots := 0, locals := 71 } (va_Pc [.ref (ad 0)] (sp_pre D [(d, .long)] sz (mdW ad d st ot sm ir ib wa pl ta co))) (va_Qi (fun (r : Int32) (x : (Nat → Nat → Int64) × (Nat → Int32)) => r = (sg_squeeze (rdy, q, w, P, g, tk, S)).1 ∧ sg_MR (sg_squeeze (rdy, q, w, P, g, tk, S)).2 (x.1 0) (x.2 0) (x.2 1) (x.2 2) (x.2 3) (x.2 4) (x.2 5)) (sp_end D [(d, .long)] (va_A (mdW ad d st ot sm ir ib wa pl ta co) sz) (fun x : (Nat → Nat → Int64) × (Nat → Int32) => mdW ad d (x.1 0) (x.1 1) (x.1 2) (x.2 0) (x.2 1) (x.2 2) (x.2 3) (x.2 4) (x.2 5))) (va_A (mdW ad d st ot sm ir ib wa pl ta co) sz)) 0 0 (va_A (mdW ad d st ot sm ir ib wa pl ta co) sz) := by
  obtain ⟨c1, c2, c3, c4, c7⟩ := hC
  subst c1
  subst c3
  subst c4
  obtain ⟨a1, a2, a3, a4, a5, a6, a7, a8⟩ := hAI
  rcases (show q = 0 ∨ q = 1 ∨ q = 2 by omega) with rfl | rfl | rfl
  · have c2 : ib = nI 0 := c2
    subst c2
    have hf : sg_squeeze (rdy, 0, w, P, g, ta, S) = (-1, (rdy, 0, w, P, g, ta, S)) := rfl
    refine Met.ofW (cc := cX1_squeeze) (maxL := 2) (ret := (some .int)) (by decide) rfl ?_
    intro p e s m args below meth c s₁ B hml hv
    obtain ⟨rfl, hsz, hPw, hK, hD0⟩ := hv
    subst hsz
    have hts := atoms_spec (ws := ws_ yX1_squeeze cX1_squeeze 2 (some .int)) B.pre
    have F : CallFix p m c cX1_squeeze 2 s ([.ref (ad 0)] : List Value).toArray lw_all RX1 := ⟨B.exec, B.bytes, hml, findClass_of_methodNamed B.named, fun w h => hts w (List.mem_cons_of_mem _ h)⟩
    have hx := F.1
    have hb := F.2.1
    have hr := B.returns
    have hlocks := B.notSynchronized
    have hD := hD0.self (sz := s.heap.size)
    generalize hAe : va_A (mdW ad d st ot sm (nI rdy) (nI 0) wa pl ta (nI g)) s.heap.size = A at hD ⊢
    have hA : ∀ q : Nat, s.heap.size ≤ q → A q := fun q h => by rw [← hAe]; exact Or.inr h
    have hI : sp_in D A s.heap (mdW ad d st ot sm (nI rdy) (nI 0) wa pl ta (nI g)) s.heap [] := ⟨hPw, hD, va_S.rf⟩
    have hl := lv_entry ([.ref (ad 0)]) (n := 2) (Nat.le_of_ble_eq_true rfl)
    rw [lg_entry_eq]
    generalize (lg_sl ([.ref (ad 0)]) ++ List.replicate (2 - (lg_sl ([.ref (ad 0)])).length) Slot.unset).toArray = ls at hl ⊢
    have hl : lv_has ls 2 [(0, .ref (ad 0))] := hl
    refine lv_aload_n hx hb dX1_squeeze_0 rfl (lv_at hl 0 rfl) ?_
    refine sp_get1 (v := .int (nI 0)) F hK hI.1 rfl 1 (by decide) q127 rfl rfl dX1_squeeze_1 ?_
    refine sp_ifn (tgt := 9) hx hb (by omega) dX1_squeeze_4 (by decide) (fun d1 => ?_) (fun d1 => ?_)
    · exact absurd rfl d1
    · refine lv_iconst (v := -1) hx hb dX1_squeeze_7 kc_m1 ?_
      exact W.iret hx hb hr (fun t ht hW => ⟨⟨_, (sg_m3 st ot sm, sg_g6 (nI rdy) (nI 0) wa pl ta (nI g)), rfl, by rw [hf]; exact ⟨rfl, rfl, rfl, rfl, rfl, c7⟩, by rw [ht]; exact hI.1, va_K.moved hW.alike hK, hI.2.1⟩, hI.2.2.F ht⟩) hI.2.2.2.2 dX1_squeeze_8
  · have c2 : ib = nI 1 := c2
    subst c2
    obtain ⟨hg0, hPr⟩ := a6 rfl
    subst hg0
    obtain ⟨k1, k2, hS⟩ := c7 (by omega)
    subst k1
    subst k2
    have hrt := sg_rate_in w
    rcases (show w = 0 ∨ w = 1 by omega) with rfl | rfl
    · have hf : sg_squeeze (rdy, 1, 0, P, 0, ta, S) = (nI (sg_at (sg_pad 0 P S) 0), (rdy, 2, 0, 1, 1, ta, sg_pad 0 P S)) := rfl
      refine Met.ofW (cc := cX1_squeeze) (maxL := 2) (ret := (some .int)) (by decide) rfl ?_
      intro p e s m args below meth c s₁ B hml hv
      obtain ⟨rfl, hsz, hPw, hK, hD0⟩ := hv
      subst hsz
      have hts := atoms_spec (ws := ws_ yX1_squeeze cX1_squeeze 2 (some .int)) B.pre
      have F : CallFix p m c cX1_squeeze 2 s ([.ref (ad 0)] : List Value).toArray lw_all RX1 := ⟨B.exec, B.bytes, hml, findClass_of_methodNamed B.named, fun w h => hts w (List.mem_cons_of_mem _ h)⟩
      have hx := F.1
      have hb := F.2.1
      have hr := B.returns
      have hlocks := B.notSynchronized
      have hD := hD0.self (sz := s.heap.size)
      generalize hAe : va_A (mdW ad d st ot sm (nI rdy) (nI 1) (nI 0) (nI P) ta (nI 0)) s.heap.size = A at hD ⊢
      have hA : ∀ q : Nat, s.heap.size ≤ q → A q := fun q h => by rw [← hAe]; exact Or.inr h
      have hI : sp_in D A s.heap (mdW ad d st ot sm (nI rdy) (nI 1) (nI 0) (nI P) ta (nI 0)) s.heap [] := ⟨hPw, hD, va_S.rf⟩
      have hl := lv_entry ([.ref (ad 0)]) (n := 2) (Nat.le_of_ble_eq_true rfl)
      rw [lg_entry_eq]
      generalize (lg_sl ([.ref (ad 0)]) ++ List.replicate (2 - (lg_sl ([.ref (ad 0)])).length) Slot.unset).toArray = ls at hl ⊢
      have hl : lv_has ls 2 [(0, .ref (ad 0))] := hl
      have hR : 2 + 1 ≤ (headSpec (ws_ yX1_squeeze cX1_squeeze 2 (some .int)) { frames := 3, cells := 0, slots := 0, locals := 71 }).room.frames ∧ 8 + (5 + 11) + 47 ≤ (headSpec (ws_ yX1_squeeze cX1_squeeze 2 (some .int)) { frames := 3, cells := 0, slots := 0, locals := 71 }).room.locals := ⟨Nat.le_of_ble_eq_true rfl, Nat.le_of_ble_eq_true rfl⟩
      have hRp : 0 + 1 ≤ (headSpec (ws_ yX1_squeeze cX1_squeeze 2 (some .int)) { frames := 3, cells := 0, slots := 0, locals := 71 }).room.frames ∧ 8 + (3 + 11) + 0 ≤ (headSpec (ws_ yX1_squeeze cX1_squeeze 2 (some .int)) { frames := 3, cells := 0, slots := 0, locals := 71 }).room.locals := ⟨Nat.le_of_ble_eq_true rfl, Nat.le_of_ble_eq_true rfl⟩
      have hRr : 0 + 1 ≤ (headSpec (ws_ yX1_squeeze cX1_squeeze 2 (some .int)) { frames := 3, cells := 0, slots := 0, locals := 71 }).room.frames ∧ 8 + (1 + 11) + 0 ≤ (headSpec (ws_ yX1_squeeze cX1_squeeze 2 (some .int)) { frames := 3, cells := 0, slots := 0, locals := 71 }).room.locals := ⟨Nat.le_of_ble_eq_true rfl, Nat.le_of_ble_eq_true rfl⟩
      refine lv_aload_n hx hb dX1_squeeze_0 rfl (lv_at hl 0 rfl) ?_
      refine sp_get1 (v := .int (nI 1)) F hK hI.1 rfl 1 (by decide) q127 rfl rfl dX1_squeeze_1 ?_
      refine sp_ifn (tgt := 9) hx hb (by omega) dX1_squeeze_4 (by decide) (fun d1 => ?_) (fun d1 => ?_)
      · refine lv_aload_n hx hb dX1_squeeze_9 rfl (lv_at hl 0 rfl) ?_
        refine sp_get1 (v := .int (nI 0)) F hK hI.1 rfl 2 (by decide) q128 rfl rfl dX1_squeeze_10 ?_
        refine sp_ifn (tgt := 28) hx hb (by omega) dX1_squeeze_13 (by decide) (fun d2 => ?_) (fun d2 => ?_)
        · exact absurd d2 (by omega)
        · refine lv_aload_n hx hb dX1_squeeze_16 rfl (lv_at hl 0 rfl) ?_
          refine sp_get1 (v := .int (nI 0)) F hK hI.1 rfl 5 (by decide) q131 rfl rfl dX1_squeeze_17 ?_
          refine lv_bipush (v := nI 32) hx hb dX1_squeeze_20 kb_32 ?_
          refine sp_ne (tgt := 28) hx hb (by omega) (by omega)  dX1_squeeze_22 (by decide) (fun d3 => ?_) (fun d3 => ?_)
          · refine lv_aload_n hx hb dX1_squeeze_28 rfl (lv_at hl 0 rfl) ?_
            refine sp_get1 (v := .int (nI 0)) F hK hI.1 rfl 5 (by decide) q131 rfl rfl dX1_squeeze_29 ?_
            refine sp_ifn (tgt := 82) hx hb (by omega) dX1_squeeze_32 (by decide) (fun d4 => ?_) (fun d4 => ?_)
            · exact absurd d4 (by omega)
            · refine lv_aload_n hx hb dX1_squeeze_35 rfl (lv_at hl 0 rfl) ?_
              refine lv_aload_n hx hb dX1_squeeze_36 rfl (lv_at hl 0 rfl) ?_
              refine sp_get1 (v := .int (nI 0)) F hK hI.1 rfl 2 (by decide) q128 rfl rfl dX1_squeeze_37 ?_
              refine sp_ifn (tgt := 48) hx hb (by omega) dX1_squeeze_40 (by decide) (fun d5 => ?_) (fun d5 => ?_)
              · exact absurd d5 (by omega)
              · refine lv_bipush (v := nI 6) hx hb dX1_squeeze_43 kb_6 ?_
                refine lv_goto (tgt := 50) hx hb dX1_squeeze_45 (by decide) ?_
                refine lv_aload_n hx hb dX1_squeeze_50 rfl (lv_at hl 0 rfl) ?_
                refine sp_get1 (v := .int (nI P)) F hK hI.1 rfl 3 (by decide) q129 rfl rfl dX1_squeeze_51 ?_
                refine sp_callV (ci := 1) 2 F (met1_put l D ad d _ st ot sm (nI rdy) (nI 1) (nI 0) (nI P) ta (nI 0) S P 6 (by omega) (by decide) hS) (lw_V q167 q169 qs6 q13 q170) rfl rfl (by decide +kernel) hRp hK hI hA rfl rfl rfl hl.1 rfl (Nat.le_of_ble_eq_true rfl) dX1_squeeze_54 (fun x1 H locs hx1 hI => ?_)
                have hI : sp_in D A _ (mdW ad d (x1 0) ot sm (nI rdy) (nI 1) (nI 0) (nI P) ta (nI 0)) H locs := hI
                refine lv_aload_n hx hb dX1_squeeze_57 rfl (lv_at hl 0 rfl) ?_
                refine lv_sipush (v := nI 128) hx hb dX1_squeeze_58 ks_128 ?_
                refine lv_aload_n hx hb dX1_squeeze_61 rfl (lv_at hl 0 rfl) ?_
                refine sp_get1 (v := .int (nI 0)) F hK hI.1 rfl 2 (by decide) q128 rfl rfl dX1_squeeze_62 ?_
                refine sp_callSi 1 F (met_rate l 0 (by omega)) (lw_S q171 q172 q13 q173) rfl rfl (by decide +kernel) hRr hI rfl hl.1 rfl (Nat.le_of_ble_eq_true rfl) dX1_squeeze_65 (fun r H locs hr1 hI => ?_)
                refine sp_topi (y := (nI (sg_rate 0))) hr1 ?_
                refine lv_iconst (v := nI 1) hx hb dX1_squeeze_68 kc_1 ?_
                refine sp_isub (z := (sg_rate 0) - 1) hx hb (by omega) rfl dX1_squeeze_69 ?_
                refine sp_callV (ci := 1) 2 F (met1_put l D ad d _ (x1 0) ot sm (nI rdy) (nI 1) (nI 0) (nI P) ta (nI 0) (sg_put S P 6) (sg_rate 0 - 1) 128 (by omega) (by decide) hx1) (lw_V q167 q169 qs6 q13 q170) rfl rfl (by decide +kernel) hRp hK hI hA rfl rfl rfl hl.1 rfl (Nat.le_of_ble_eq_true rfl) dX1_squeeze_70 (fun x2 H locs hx2 hI => ?_)
                have hI : sp_in D A _ (mdW ad d (x2 0) ot sm (nI rdy) (nI 1) (nI 0) (nI P) ta (nI 0)) H locs := hI
                refine lv_aload_n hx hb dX1_squeeze_73 rfl (lv_at hl 0 rfl) ?_
                refine sp_callV (ci := 1) 0 F (met1_permute l D ad d _ (x2 0) ot sm (nI rdy) (nI 1) (nI 0) (nI P) ta (nI 0) (sg_put (sg_put S P 6) (sg_rate 0 - 1) 128) hx2) (lw_V q174 q176 qs7 q13 q177) rfl rfl (by decide +kernel) hR hK hI hA rfl rfl rfl hl.1 rfl (Nat.le_of_ble_eq_true rfl) dX1_squeeze_74 (fun x3 H locs hx3 hI => ?_)
                have hI : sp_in D A _ (mdW ad d (x3 0) (x3 1) (x3 2) (nI rdy) (nI 1) (nI 0) (nI P) ta (nI 0)) H locs := hI
                have hx4 : sg_MH (x3 0) (sg_pad 0 P S) := hx3
                refine lv_aload_n hx hb dX1_squeeze_77 rfl (lv_at hl 0 rfl) ?_
                refine lv_iconst (v := nI 0) hx hb dX1_squeeze_78 kc_0 ?_
                refine sp_put1 (v := .int (nI 0)) (ty := .int) F hK hI rfl 3 (by decide) q129 rfl rfl (by decide +kernel) rfl rfl (Nat.le_of_ble_eq_true rfl) dX1_squeeze_79 (fun H locs hI => ?_)
                have hI : sp_in D A _ (mdW ad d (x3 0) (x3 1) (x3 2) (nI rdy) (nI 1) (nI 0) (nI 0) ta (nI 0)) H locs := hI
                refine lv_aload_n hx hb dX1_squeeze_82 rfl (lv_at hl 0 rfl) ?_
                refine sp_get1 (v := .int (nI 0)) F hK hI.1 rfl 3 (by decide) q129 rfl rfl dX1_squeeze_83 ?_
                refine lv_aload_n hx hb dX1_squeeze_86 rfl (lv_at hl 0 rfl) ?_
                refine sp_get1 (v := .int (nI 0)) F hK hI.1 rfl 2 (by decide) q128 rfl rfl dX1_squeeze_87 ?_
                refine sp_callSi 1 F (met_rate l 0 (by omega)) (lw_S q171 q172 q13 q173) rfl rfl (by decide +kernel) hRr hI rfl hl.1 rfl (Nat.le_of_ble_eq_true rfl) dX1_squeeze_90 (fun r H locs hr2 hI => ?_)
                refine sp_topi (y := (nI (sg_rate 0))) hr2 ?_
                refine sp_ne (tgt := 105) hx hb (by omega) (by omega)  dX1_squeeze_93 (by decide) (fun d6 => ?_) (fun d6 => ?_)
                · refine lv_aload_n hx hb dX1_squeeze_105 rfl (lv_at hl 0 rfl) ?_
                  refine sp_get1 (v := .ref (ad 1)) F hK hI.1 rfl 6 (by decide) q132 rfl rfl dX1_squeeze_106 ?_
                  refine lv_aload_n hx hb dX1_squeeze_109 rfl (lv_at hl 0 rfl) ?_
                  refine sp_get1 (v := .int (nI 0)) F hK hI.1 rfl 3 (by decide) q129 rfl rfl dX1_squeeze_110 ?_
                  refine lv_bipush (v := nI 8) hx hb dX1_squeeze_113 kb_8 ?_
                  refine sp_idiv (z := 0 / 8) hx hb (by omega) (by decide) (by decide) rfl dX1_squeeze_115 ?_
                  refine sp_lald (v := (sg_w ((sg_pad 0 P S) (0 / 8)))) hx hb hK hI.1 1 rfl rfl (by decide) (by omega) (hx4 _ (by omega)) dX1_squeeze_116 ?_
                  refine lv_bipush (v := nI 8) hx hb dX1_squeeze_117 kb_8 ?_
                  refine lv_aload_n hx hb dX1_squeeze_119 rfl (lv_at hl 0 rfl) ?_
                  refine sp_get1 (v := .int (nI 0)) F hK hI.1 rfl 3 (by decide) q129 rfl rfl dX1_squeeze_120 ?_
                  refine lv_bipush (v := nI 8) hx hb dX1_squeeze_123 kb_8 ?_
                  refine sp_irem (z := 0 % 8) hx hb (by omega) (by decide) (by decide) rfl dX1_squeeze_125 ?_
                  refine sp_imul (z := 8 * (0 % 8)) hx hb rfl dX1_squeeze_126 ?_
                  refine lv_lushr hx hb dX1_squeeze_127 rfl ?_
                  refine lv_ldc2 (v := 255) hx hb F.2.2.2.1 (F.2.2.2.2 _ q198) dX1_squeeze_128 ?_
                  refine lv_land hx hb dX1_squeeze_131 ?_
                  refine lv_l2i hx hb dX1_squeeze_132 rfl ?_
                  refine sp_topi (y := (nI (sg_at (sg_pad 0 P S) 0))) (sg_at_w _ (by omega)) ?_
                  refine lv_istore_n (lv' := [(1, .int (nI (sg_at (sg_pad 0 P S) 0))), (0, .ref (ad 0))]) hx hb dX1_squeeze_133 rfl hl (by decide) rfl (fun ls hl => ?_)
                  refine lv_aload_n hx hb dX1_squeeze_134 rfl (lv_at hl 1 rfl) ?_
                  refine lv_dup hx hb dX1_squeeze_135 rfl ?_
                  refine sp_get1 (v := .int (nI 0)) F hK hI.1 rfl 3 (by decide) q129 rfl rfl dX1_squeeze_136 ?_
                  refine lv_iconst (v := nI 1) hx hb dX1_squeeze_139 kc_1 ?_
                  refine sp_iadd (z := 1) hx hb rfl dX1_squeeze_140 ?_
                  refine sp_put1 (v := .int (nI 1)) (ty := .int) F hK hI rfl 3 (by decide) q129 rfl rfl (by decide +kernel) rfl rfl (Nat.le_of_ble_eq_true rfl) dX1_squeeze_141 (fun H locs hI => ?_)
                  have hI : sp_in D A _ (mdW ad d (x3 0) (x3 1) (x3 2) (nI rdy) (nI 1) (nI 0) (nI 1) ta (nI 0)) H locs := hI
                  refine lv_aload_n hx hb dX1_squeeze_144 rfl (lv_at hl 1 rfl) ?_
                  refine lv_dup hx hb dX1_squeeze_145 rfl ?_
                  refine sp_get1 (v := .int (nI 0)) F hK hI.1 rfl 5 (by decide) q131 rfl rfl dX1_squeeze_146 ?_
                  refine lv_iconst (v := nI 1) hx hb dX1_squeeze_149 kc_1 ?_
                  refine sp_iadd (z := 1) hx hb rfl dX1_squeeze_150 ?_
                  refine sp_put1 (v := .int (nI 1)) (ty := .int) F hK hI rfl 5 (by decide) q131 rfl rfl (by decide +kernel) rfl rfl (Nat.le_of_ble_eq_true rfl) dX1_squeeze_151 (fun H locs hI => ?_)
                  have hI : sp_in D A _ (mdW ad d (x3 0) (x3 1) (x3 2) (nI rdy) (nI 1) (nI 0) (nI 1) ta (nI 1)) H locs := hI
                  refine lv_iload_n hx hb dX1_squeeze_154 rfl (lv_at hl 0 rfl) ?_
                  exact W.iret hx hb hr (fun t ht hW => ⟨⟨_, (sg_m3 (x3 0) (x3 1) (x3 2), sg_g6 (nI rdy) (nI 1) (nI 0) (nI 1) ta (nI 1)), rfl, by rw [hf]; exact ⟨rfl, rfl, rfl, rfl, rfl, fun _ => ⟨rfl, rfl, hx4⟩⟩, by rw [ht]; exact hI.1, va_K.moved hW.alike hK, hI.2.1⟩, hI.2.2.F ht⟩) hI.2.2.2.2 dX1_squeeze_155
                · exact absurd d6 (by omega)
          · exact absurd d3 (by omega)
      · exact absurd d1 (by omega)
    · have hf : sg_squeeze (rdy, 1, 1, P, 0, ta, S) = (nI (sg_at (sg_pad 1 P S) 0), (rdy, 2, 1, 1, 1, ta, sg_pad 1 P S)) := rfl
      refine Met.ofW (cc := cX1_squeeze) (maxL := 2) (ret := (some .int)) (by decide) rfl ?_
      intro p e s m args below meth c s₁ B hml hv
      obtain ⟨rfl, hsz, hPw, hK, hD0⟩ := hv
      subst hsz
      have hts := atoms_spec (ws := ws_ yX1_squeeze cX1_squeeze 2 (some .int)) B.pre
      have F : CallFix p m c cX1_squeeze 2 s ([.ref (ad 0)] : List Value).toArray lw_all RX1 := ⟨B.exec, B.bytes, hml, findClass_of_methodNamed B.named, fun w h => hts w (List.mem_cons_of_mem _ h)⟩
      have hx := F.1
      have hb := F.2.1
      have hr := B.returns
      have hlocks := B.notSynchronized
      have hD := hD0.self (sz := s.heap.size)
      generalize hAe : va_A (mdW ad d st ot sm (nI rdy) (nI 1) (nI 1) (nI P) ta (nI 0)) s.heap.size = A at hD ⊢
      have hA : ∀ q : Nat, s.heap.size ≤ q → A q := fun q h => by rw [← hAe]; exact Or.inr h
      have hI : sp_in D A s.heap (mdW ad d st ot sm (nI rdy) (nI 1) (nI 1) (nI P) ta (nI 0)) s.heap [] := ⟨hPw, hD, va_S.rf⟩
      have hl := lv_entry ([.ref (ad 0)]) (n := 2) (Nat.le_of_ble_eq_true rfl)
      rw [lg_entry_eq]
      generalize (lg_sl ([.ref (ad 0)]) ++ List.replicate (2 - (lg_sl ([.ref (ad 0)])).length) Slot.unset).toArray = ls at hl ⊢
      have hl : lv_has ls 2 [(0, .ref (ad 0))] := hl
      have hR : 2 + 1 ≤ (headSpec (ws_ yX1_squeeze cX1_squeeze 2 (some .int)) { frames := 3, cells := 0, slots := 0, locals := 71 }).room.frames ∧ 8 + (5 + 11) + 47 ≤ (headSpec (ws_ yX1_squeeze cX1_squeeze 2 (some .int)) { frames := 3, cells := 0, slots := 0, locals := 71 }).room.locals := ⟨Nat.le_of_ble_eq_true rfl, Nat.le_of_ble_eq_true rfl⟩
      have hRp : 0 + 1 ≤ (headSpec (ws_ yX1_squeeze cX1_squeeze 2 (some .int)) { frames := 3, cells := 0, slots := 0, locals := 71 }).room.frames ∧ 8 + (3 + 11) + 0 ≤ (headSpec (ws_ yX1_squeeze cX1_squeeze 2 (some .int)) { frames := 3, cells := 0, slots := 0, locals := 71 }).room.locals := ⟨Nat.le_of_ble_eq_true rfl, Nat.le_of_ble_eq_true rfl⟩
      have hRr : 0 + 1 ≤ (headSpec (ws_ yX1_squeeze cX1_squeeze 2 (some .int)) { frames := 3, cells := 0, slots := 0, locals := 71 }).room.frames ∧ 8 + (1 + 11) + 0 ≤ (headSpec (ws_ yX1_squeeze cX1_squeeze 2 (some .int)) { frames := 3, cells := 0, slots := 0, locals := 71 }).room.locals := ⟨Nat.le_of_ble_eq_true rfl, Nat.le_of_ble_eq_true rfl⟩
      refine lv_aload_n hx hb dX1_squeeze_0 rfl (lv_at hl 0 rfl) ?_
      refine sp_get1 (v := .int (nI 1)) F hK hI.1 rfl 1 (by decide) q127 rfl rfl dX1_squeeze_1 ?_
      refine sp_ifn (tgt := 9) hx hb (by omega) dX1_squeeze_4 (by decide) (fun d1 => ?_) (fun d1 => ?_)
      · refine lv_aload_n hx hb dX1_squeeze_9 rfl (lv_at hl 0 rfl) ?_
        refine sp_get1 (v := .int (nI 1)) F hK hI.1 rfl 2 (by decide) q128 rfl rfl dX1_squeeze_10 ?_
        refine sp_ifn (tgt := 28) hx hb (by omega) dX1_squeeze_13 (by decide) (fun d2 => ?_) (fun d2 => ?_)
        · refine lv_aload_n hx hb dX1_squeeze_28 rfl (lv_at hl 0 rfl) ?_
          refine sp_get1 (v := .int (nI 0)) F hK hI.1 rfl 5 (by decide) q131 rfl rfl dX1_squeeze_29 ?_
          refine sp_ifn (tgt := 82) hx hb (by omega) dX1_squeeze_32 (by decide) (fun d4 => ?_) (fun d4 => ?_)
          · exact absurd d4 (by omega)
          · refine lv_aload_n hx hb dX1_squeeze_35 rfl (lv_at hl 0 rfl) ?_
            refine lv_aload_n hx hb dX1_squeeze_36 rfl (lv_at hl 0 rfl) ?_
            refine sp_get1 (v := .int (nI 1)) F hK hI.1 rfl 2 (by decide) q128 rfl rfl dX1_squeeze_37 ?_
            refine sp_ifn (tgt := 48) hx hb (by omega) dX1_squeeze_40 (by decide) (fun d5 => ?_) (fun d5 => ?_)
            · refine lv_bipush (v := nI 31) hx hb dX1_squeeze_48 kb_31 ?_
              refine lv_aload_n hx hb dX1_squeeze_50 rfl (lv_at hl 0 rfl) ?_
              refine sp_get1 (v := .int (nI P)) F hK hI.1 rfl 3 (by decide) q129 rfl rfl dX1_squeeze_51 ?_
              refine sp_callV (ci := 1) 2 F (met1_put l D ad d _ st ot sm (nI rdy) (nI 1) (nI 1) (nI P) ta (nI 0) S P 31 (by omega) (by decide) hS) (lw_V q167 q169 qs6 q13 q170) rfl rfl (by decide +kernel) hRp hK hI hA rfl rfl rfl hl.1 rfl (Nat.le_of_ble_eq_true rfl) dX1_squeeze_54 (fun x1 H locs hx1 hI => ?_)
              have hI : sp_in D A _ (mdW ad d (x1 0) ot sm (nI rdy) (nI 1) (nI 1) (nI P) ta (nI 0)) H locs := hI
              refine lv_aload_n hx hb dX1_squeeze_57 rfl (lv_at hl 0 rfl) ?_
              refine lv_sipush (v := nI 128) hx hb dX1_squeeze_58 ks_128 ?_
              refine lv_aload_n hx hb dX1_squeeze_61 rfl (lv_at hl 0 rfl) ?_
              refine sp_get1 (v := .int (nI 1)) F hK hI.1 rfl 2 (by decide) q128 rfl rfl dX1_squeeze_62 ?_
              refine sp_callSi 1 F (met_rate l 1 (by omega)) (lw_S q171 q172 q13 q173) rfl rfl (by decide +kernel) hRr hI rfl hl.1 rfl (Nat.le_of_ble_eq_true rfl) dX1_squeeze_65 (fun r H locs hr1 hI => ?_)
              refine sp_topi (y := (nI (sg_rate 1))) hr1 ?_
              refine lv_iconst (v := nI 1) hx hb dX1_squeeze_68 kc_1 ?_
              refine sp_isub (z := (sg_rate 1) - 1) hx hb (by omega) rfl dX1_squeeze_69 ?_
              refine sp_callV (ci := 1) 2 F (met1_put l D ad d _ (x1 0) ot sm (nI rdy) (nI 1) (nI 1) (nI P) ta (nI 0) (sg_put S P 31) (sg_rate 1 - 1) 128 (by omega) (by decide) hx1) (lw_V q167 q169 qs6 q13 q170) rfl rfl (by decide +kernel) hRp hK hI hA rfl rfl rfl hl.1 rfl (Nat.le_of_ble_eq_true rfl) dX1_squeeze_70 (fun x2 H locs hx2 hI => ?_)
              have hI : sp_in D A _ (mdW ad d (x2 0) ot sm (nI rdy) (nI 1) (nI 1) (nI P) ta (nI 0)) H locs := hI
              refine lv_aload_n hx hb dX1_squeeze_73 rfl (lv_at hl 0 rfl) ?_
              refine sp_callV (ci := 1) 0 F (met1_permute l D ad d _ (x2 0) ot sm (nI rdy) (nI 1) (nI 1) (nI P) ta (nI 0) (sg_put (sg_put S P 31) (sg_rate 1 - 1) 128) hx2) (lw_V q174 q176 qs7 q13 q177) rfl rfl (by decide +kernel) hR hK hI hA rfl rfl rfl hl.1 rfl (Nat.le_of_ble_eq_true rfl) dX1_squeeze_74 (fun x3 H locs hx3 hI => ?_)
              have hI : sp_in D A _ (mdW ad d (x3 0) (x3 1) (x3 2) (nI rdy) (nI 1) (nI 1) (nI P) ta (nI 0)) H locs := hI
              have hx4 : sg_MH (x3 0) (sg_pad 1 P S) := hx3
              refine lv_aload_n hx hb dX1_squeeze_77 rfl (lv_at hl 0 rfl) ?_
              refine lv_iconst (v := nI 0) hx hb dX1_squeeze_78 kc_0 ?_
              refine sp_put1 (v := .int (nI 0)) (ty := .int) F hK hI rfl 3 (by decide) q129 rfl rfl (by decide +kernel) rfl rfl (Nat.le_of_ble_eq_true rfl) dX1_squeeze_79 (fun H locs hI => ?_)
              have hI : sp_in D A _ (mdW ad d (x3 0) (x3 1) (x3 2) (nI rdy) (nI 1) (nI 1) (nI 0) ta (nI 0)) H locs := hI
              refine lv_aload_n hx hb dX1_squeeze_82 rfl (lv_at hl 0 rfl) ?_
              refine sp_get1 (v := .int (nI 0)) F hK hI.1 rfl 3 (by decide) q129 rfl rfl dX1_squeeze_83 ?_
              refine lv_aload_n hx hb dX1_squeeze_86 rfl (lv_at hl 0 rfl) ?_
              refine sp_get1 (v := .int (nI 1)) F hK hI.1 rfl 2 (by decide) q128 rfl rfl dX1_squeeze_87 ?_
              refine sp_callSi 1 F (met_rate l 1 (by omega)) (lw_S q171 q172 q13 q173) rfl rfl (by decide +kernel) hRr hI rfl hl.1 rfl (Nat.le_of_ble_eq_true rfl) dX1_squeeze_90 (fun r H locs hr2 hI => ?_)
              refine sp_topi (y := (nI (sg_rate 1))) hr2 ?_
              refine sp_ne (tgt := 105) hx hb (by omega) (by omega)  dX1_squeeze_93 (by decide) (fun d6 => ?_) (fun d6 => ?_)
              · refine lv_aload_n hx hb dX1_squeeze_105 rfl (lv_at hl 0 rfl) ?_
                refine sp_get1 (v := .ref (ad 1)) F hK hI.1 rfl 6 (by decide) q132 rfl rfl dX1_squeeze_106 ?_
                refine lv_aload_n hx hb dX1_squeeze_109 rfl (lv_at hl 0 rfl) ?_
                refine sp_get1 (v := .int (nI 0)) F hK hI.1 rfl 3 (by decide) q129 rfl rfl dX1_squeeze_110 ?_
                refine lv_bipush (v := nI 8) hx hb dX1_squeeze_113 kb_8 ?_
                refine sp_idiv (z := 0 / 8) hx hb (by omega) (by decide) (by decide) rfl dX1_squeeze_115 ?_
                refine sp_lald (v := (sg_w ((sg_pad 1 P S) (0 / 8)))) hx hb hK hI.1 1 rfl rfl (by decide) (by omega) (hx4 _ (by omega)) dX1_squeeze_116 ?_
                refine lv_bipush (v := nI 8) hx hb dX1_squeeze_117 kb_8 ?_
                refine lv_aload_n hx hb dX1_squeeze_119 rfl (lv_at hl 0 rfl) ?_
                refine sp_get1 (v := .int (nI 0)) F hK hI.1 rfl 3 (by decide) q129 rfl rfl dX1_squeeze_120 ?_
                refine lv_bipush (v := nI 8) hx hb dX1_squeeze_123 kb_8 ?_
                refine sp_irem (z := 0 % 8) hx hb (by omega) (by decide) (by decide) rfl dX1_squeeze_125 ?_
                refine sp_imul (z := 8 * (0 % 8)) hx hb rfl dX1_squeeze_126 ?_
                refine lv_lushr hx hb dX1_squeeze_127 rfl ?_
                refine lv_ldc2 (v := 255) hx hb F.2.2.2.1 (F.2.2.2.2 _ q198) dX1_squeeze_128 ?_
                refine lv_land hx hb dX1_squeeze_131 ?_
                refine lv_l2i hx hb dX1_squeeze_132 rfl ?_
                refine sp_topi (y := (nI (sg_at (sg_pad 1 P S) 0))) (sg_at_w _ (by omega)) ?_
                refine lv_istore_n (lv' := [(1, .int (nI (sg_at (sg_pad 1 P S) 0))), (0, .ref (ad 0))]) hx hb dX1_squeeze_133 rfl hl (by decide) rfl (fun ls hl => ?_)
                refine lv_aload_n hx hb dX1_squeeze_134 rfl (lv_at hl 1 rfl) ?_
                refine lv_dup hx hb dX1_squeeze_135 rfl ?_
                refine sp_get1 (v := .int (nI 0)) F hK hI.1 rfl 3 (by decide) q129 rfl rfl dX1_squeeze_136 ?_
                refine lv_iconst (v := nI 1) hx hb dX1_squeeze_139 kc_1 ?_
                refine sp_iadd (z := 1) hx hb rfl dX1_squeeze_140 ?_
                refine sp_put1 (v := .int (nI 1)) (ty := .int) F hK hI rfl 3 (by decide) q129 rfl rfl (by decide +kernel) rfl rfl (Nat.le_of_ble_eq_true rfl) dX1_squeeze_141 (fun H locs hI => ?_)
                have hI : sp_in D A _ (mdW ad d (x3 0) (x3 1) (x3 2) (nI rdy) (nI 1) (nI 1) (nI 1) ta (nI 0)) H locs := hI
                refine lv_aload_n hx hb dX1_squeeze_144 rfl (lv_at hl 1 rfl) ?_
                refine lv_dup hx hb dX1_squeeze_145 rfl ?_
                refine sp_get1 (v := .int (nI 0)) F hK hI.1 rfl 5 (by decide) q131 rfl rfl dX1_squeeze_146 ?_
                refine lv_iconst (v := nI 1) hx hb dX1_squeeze_149 kc_1 ?_
                refine sp_iadd (z := 1) hx hb rfl dX1_squeeze_150 ?_
                refine sp_put1 (v := .int (nI 1)) (ty := .int) F hK hI rfl 5 (by decide) q131 rfl rfl (by decide +kernel) rfl rfl (Nat.le_of_ble_eq_true rfl) dX1_squeeze_151 (fun H locs hI => ?_)
                have hI : sp_in D A _ (mdW ad d (x3 0) (x3 1) (x3 2) (nI rdy) (nI 1) (nI 1) (nI 1) ta (nI 1)) H locs := hI
                refine lv_iload_n hx hb dX1_squeeze_154 rfl (lv_at hl 0 rfl) ?_
                exact W.iret hx hb hr (fun t ht hW => ⟨⟨_, (sg_m3 (x3 0) (x3 1) (x3 2), sg_g6 (nI rdy) (nI 1) (nI 1) (nI 1) ta (nI 1)), rfl, by rw [hf]; exact ⟨rfl, rfl, rfl, rfl, rfl, fun _ => ⟨rfl, rfl, hx4⟩⟩, by rw [ht]; exact hI.1, va_K.moved hW.alike hK, hI.2.1⟩, hI.2.2.F ht⟩) hI.2.2.2.2 dX1_squeeze_155
              · exact absurd d6 (by omega)
            · exact absurd d5 (by omega)
        · exact absurd d2 (by omega)
      · exact absurd d1 (by omega)
  · have c2 : ib = nI 1 := c2
    subst c2
    obtain ⟨hg1, hPr, hgw⟩ := a7 rfl
    obtain ⟨k1, k2, hS⟩ := c7 (by omega)
    subst k1
    subst k2
    have hrt := sg_rate_in w
    by_cases hlm : w = 0 ∧ g = 32
    · obtain ⟨rfl, rfl⟩ := hlm
      have hf : sg_squeeze (rdy, 2, 0, P, 32, ta, S) = (-2, (rdy, 2, 0, P, 32, ta, S)) := rfl
      refine Met.ofW (cc := cX1_squeeze) (maxL := 2) (ret := (some .int)) (by decide) rfl ?_
      intro p e s m args below meth c s₁ B hml hv
      obtain ⟨rfl, hsz, hPw, hK, hD0⟩ := hv
      subst hsz
      have hts := atoms_spec (ws := ws_ yX1_squeeze cX1_squeeze 2 (some .int)) B.pre
      have F : CallFix p m c cX1_squeeze 2 s ([.ref (ad 0)] : List Value).toArray lw_all RX1 := ⟨B.exec, B.bytes, hml, findClass_of_methodNamed B.named, fun w h => hts w (List.mem_cons_of_mem _ h)⟩
      have hx := F.1
      have hb := F.2.1
      have hr := B.returns
      have hlocks := B.notSynchronized
      have hD := hD0.self (sz := s.heap.size)
      generalize hAe : va_A (mdW ad d st ot sm (nI rdy) (nI 1) (nI 0) (nI P) ta (nI 32)) s.heap.size = A at hD ⊢
      have hA : ∀ q : Nat, s.heap.size ≤ q → A q := fun q h => by rw [← hAe]; exact Or.inr h
      have hI : sp_in D A s.heap (mdW ad d st ot sm (nI rdy) (nI 1) (nI 0) (nI P) ta (nI 32)) s.heap [] := ⟨hPw, hD, va_S.rf⟩
      have hl := lv_entry ([.ref (ad 0)]) (n := 2) (Nat.le_of_ble_eq_true rfl)
      rw [lg_entry_eq]
      generalize (lg_sl ([.ref (ad 0)]) ++ List.replicate (2 - (lg_sl ([.ref (ad 0)])).length) Slot.unset).toArray = ls at hl ⊢
      have hl : lv_has ls 2 [(0, .ref (ad 0))] := hl
      refine lv_aload_n hx hb dX1_squeeze_0 rfl (lv_at hl 0 rfl) ?_
      refine sp_get1 (v := .int (nI 1)) F hK hI.1 rfl 1 (by decide) q127 rfl rfl dX1_squeeze_1 ?_
      refine sp_ifn (tgt := 9) hx hb (by omega) dX1_squeeze_4 (by decide) (fun d1 => ?_) (fun d1 => ?_)
      · refine lv_aload_n hx hb dX1_squeeze_9 rfl (lv_at hl 0 rfl) ?_
        refine sp_get1 (v := .int (nI 0)) F hK hI.1 rfl 2 (by decide) q128 rfl rfl dX1_squeeze_10 ?_
        refine sp_ifn (tgt := 28) hx hb (by omega) dX1_squeeze_13 (by decide) (fun d2 => ?_) (fun d2 => ?_)
        · exact absurd rfl d2
        · refine lv_aload_n hx hb dX1_squeeze_16 rfl (lv_at hl 0 rfl) ?_
          refine sp_get1 (v := .int (nI 32)) F hK hI.1 rfl 5 (by decide) q131 rfl rfl dX1_squeeze_17 ?_
          refine lv_bipush (v := nI 32) hx hb dX1_squeeze_20 kb_32 ?_
          refine sp_ne (tgt := 28) hx hb (by omega) (by omega)  dX1_squeeze_22 (by decide) (fun d3 => ?_) (fun d3 => ?_)
          · exact absurd rfl d3
          · refine lv_bipush (v := -2) hx hb dX1_squeeze_25 kb_m2 ?_
            exact W.iret hx hb hr (fun t ht hW => ⟨⟨_, (sg_m3 st ot sm, sg_g6 (nI rdy) (nI 1) (nI 0) (nI P) ta (nI 32)), rfl, by rw [hf]; exact ⟨rfl, rfl, rfl, rfl, rfl, c7⟩, by rw [ht]; exact hI.1, va_K.moved hW.alike hK, hI.2.1⟩, hI.2.2.F ht⟩) hI.2.2.2.2 dX1_squeeze_27
      · exact absurd d1 (by decide)
    · have hf0 : sg_squeeze (rdy, 2, w, P, g, ta, S) = if P = sg_rate w then (nI (sg_at (sg_P S) 0), (rdy, 2, w, 1, g + 1, ta, sg_P S)) else (nI (sg_at S P), (rdy, 2, w, P + 1, g + 1, ta, S)) := by rw [sg_squeeze, if_neg (show ¬ (2 : Nat) = 0 by decide), if_neg (show ¬ (2 : Nat) = 1 by decide), if_neg hlm]
      rcases (show w = 0 ∨ w = 1 by omega) with rfl | rfl
      · have hro := a4
        refine Met.ofW (cc := cX1_squeeze) (maxL := 2) (ret := (some .int)) (by decide) rfl ?_
        intro p e s m args below meth c s₁ B hml hv
        obtain ⟨rfl, hsz, hPw, hK, hD0⟩ := hv
        subst hsz
        have hts := atoms_spec (ws := ws_ yX1_squeeze cX1_squeeze 2 (some .int)) B.pre
        have F : CallFix p m c cX1_squeeze 2 s ([.ref (ad 0)] : List Value).toArray lw_all RX1 := ⟨B.exec, B.bytes, hml, findClass_of_methodNamed B.named, fun w h => hts w (List.mem_cons_of_mem _ h)⟩
        have hx := F.1
        have hb := F.2.1
        have hr := B.returns
        have hlocks := B.notSynchronized
        have hD := hD0.self (sz := s.heap.size)
        generalize hAe : va_A (mdW ad d st ot sm (nI rdy) (nI 1) (nI 0) (nI P) ta (nI g)) s.heap.size = A at hD ⊢
        have hA : ∀ q : Nat, s.heap.size ≤ q → A q := fun q h => by rw [← hAe]; exact Or.inr h
        have hI : sp_in D A s.heap (mdW ad d st ot sm (nI rdy) (nI 1) (nI 0) (nI P) ta (nI g)) s.heap [] := ⟨hPw, hD, va_S.rf⟩
        have hl := lv_entry ([.ref (ad 0)]) (n := 2) (Nat.le_of_ble_eq_true rfl)
        rw [lg_entry_eq]
        generalize (lg_sl ([.ref (ad 0)]) ++ List.replicate (2 - (lg_sl ([.ref (ad 0)])).length) Slot.unset).toArray = ls at hl ⊢
        have hl : lv_has ls 2 [(0, .ref (ad 0))] := hl
        have hR : 2 + 1 ≤ (headSpec (ws_ yX1_squeeze cX1_squeeze 2 (some .int)) { frames := 3, cells := 0, slots := 0, locals := 71 }).room.frames ∧ 8 + (5 + 11) + 47 ≤ (headSpec (ws_ yX1_squeeze cX1_squeeze 2 (some .int)) { frames := 3, cells := 0, slots := 0, locals := 71 }).room.locals := ⟨Nat.le_of_ble_eq_true rfl, Nat.le_of_ble_eq_true rfl⟩
        have hRp : 0 + 1 ≤ (headSpec (ws_ yX1_squeeze cX1_squeeze 2 (some .int)) { frames := 3, cells := 0, slots := 0, locals := 71 }).room.frames ∧ 8 + (3 + 11) + 0 ≤ (headSpec (ws_ yX1_squeeze cX1_squeeze 2 (some .int)) { frames := 3, cells := 0, slots := 0, locals := 71 }).room.locals := ⟨Nat.le_of_ble_eq_true rfl, Nat.le_of_ble_eq_true rfl⟩
        have hRr : 0 + 1 ≤ (headSpec (ws_ yX1_squeeze cX1_squeeze 2 (some .int)) { frames := 3, cells := 0, slots := 0, locals := 71 }).room.frames ∧ 8 + (1 + 11) + 0 ≤ (headSpec (ws_ yX1_squeeze cX1_squeeze 2 (some .int)) { frames := 3, cells := 0, slots := 0, locals := 71 }).room.locals := ⟨Nat.le_of_ble_eq_true rfl, Nat.le_of_ble_eq_true rfl⟩
        refine lv_aload_n hx hb dX1_squeeze_0 rfl (lv_at hl 0 rfl) ?_
        refine sp_get1 (v := .int (nI 1)) F hK hI.1 rfl 1 (by decide) q127 rfl rfl dX1_squeeze_1 ?_
        refine sp_ifn (tgt := 9) hx hb (by omega) dX1_squeeze_4 (by decide) (fun d1 => ?_) (fun d1 => ?_)
        · refine lv_aload_n hx hb dX1_squeeze_9 rfl (lv_at hl 0 rfl) ?_
          refine sp_get1 (v := .int (nI 0)) F hK hI.1 rfl 2 (by decide) q128 rfl rfl dX1_squeeze_10 ?_
          refine sp_ifn (tgt := 28) hx hb (by omega) dX1_squeeze_13 (by decide) (fun d2 => ?_) (fun d2 => ?_)
          · exact absurd d2 (by omega)
          · refine lv_aload_n hx hb dX1_squeeze_16 rfl (lv_at hl 0 rfl) ?_
            refine sp_get1 (v := .int (nI g)) F hK hI.1 rfl 5 (by decide) q131 rfl rfl dX1_squeeze_17 ?_
            refine lv_bipush (v := nI 32) hx hb dX1_squeeze_20 kb_32 ?_
            refine sp_ne (tgt := 28) hx hb (by omega) (by omega)  dX1_squeeze_22 (by decide) (fun d3 => ?_) (fun d3 => ?_)
            · refine lv_aload_n hx hb dX1_squeeze_28 rfl (lv_at hl 0 rfl) ?_
              refine sp_get1 (v := .int (nI g)) F hK hI.1 rfl 5 (by decide) q131 rfl rfl dX1_squeeze_29 ?_
              refine sp_ifn (tgt := 82) hx hb (by omega) dX1_squeeze_32 (by decide) (fun d4 => ?_) (fun d4 => ?_)
              · refine lv_aload_n hx hb dX1_squeeze_82 rfl (lv_at hl 0 rfl) ?_
                refine sp_get1 (v := .int (nI P)) F hK hI.1 rfl 3 (by decide) q129 rfl rfl dX1_squeeze_83 ?_
                refine lv_aload_n hx hb dX1_squeeze_86 rfl (lv_at hl 0 rfl) ?_
                refine sp_get1 (v := .int (nI 0)) F hK hI.1 rfl 2 (by decide) q128 rfl rfl dX1_squeeze_87 ?_
                refine sp_callSi 1 F (met_rate l 0 (by omega)) (lw_S q171 q172 q13 q173) rfl rfl (by decide +kernel) hRr hI rfl hl.1 rfl (Nat.le_of_ble_eq_true rfl) dX1_squeeze_90 (fun r H locs hr2 hI => ?_)
                refine sp_topi (y := (nI (sg_rate 0))) hr2 ?_
                refine sp_ne (tgt := 105) hx hb (by omega) (by omega)  dX1_squeeze_93 (by decide) (fun d6 => ?_) (fun d6 => ?_)
                · have hf : sg_squeeze (rdy, 2, 0, P, g, ta, S) = (nI (sg_at S P), (rdy, 2, 0, P + 1, g + 1, ta, S)) := by rw [hf0, if_neg d6]
                  refine lv_aload_n hx hb dX1_squeeze_105 rfl (lv_at hl 0 rfl) ?_
                  refine sp_get1 (v := .ref (ad 1)) F hK hI.1 rfl 6 (by decide) q132 rfl rfl dX1_squeeze_106 ?_
                  refine lv_aload_n hx hb dX1_squeeze_109 rfl (lv_at hl 0 rfl) ?_
                  refine sp_get1 (v := .int (nI P)) F hK hI.1 rfl 3 (by decide) q129 rfl rfl dX1_squeeze_110 ?_
                  refine lv_bipush (v := nI 8) hx hb dX1_squeeze_113 kb_8 ?_
                  refine sp_idiv (z := P / 8) hx hb (by omega) (by decide) (by decide) rfl dX1_squeeze_115 ?_
                  refine sp_lald (v := (sg_w (S (P / 8)))) hx hb hK hI.1 1 rfl rfl (by decide) (by omega) (hS _ (by omega)) dX1_squeeze_116 ?_
                  refine lv_bipush (v := nI 8) hx hb dX1_squeeze_117 kb_8 ?_
                  refine lv_aload_n hx hb dX1_squeeze_119 rfl (lv_at hl 0 rfl) ?_
                  refine sp_get1 (v := .int (nI P)) F hK hI.1 rfl 3 (by decide) q129 rfl rfl dX1_squeeze_120 ?_
                  refine lv_bipush (v := nI 8) hx hb dX1_squeeze_123 kb_8 ?_
                  refine sp_irem (z := P % 8) hx hb (by omega) (by decide) (by decide) rfl dX1_squeeze_125 ?_
                  refine sp_imul (z := 8 * (P % 8)) hx hb rfl dX1_squeeze_126 ?_
                  refine lv_lushr hx hb dX1_squeeze_127 rfl ?_
                  refine lv_ldc2 (v := 255) hx hb F.2.2.2.1 (F.2.2.2.2 _ q198) dX1_squeeze_128 ?_
                  refine lv_land hx hb dX1_squeeze_131 ?_
                  refine lv_l2i hx hb dX1_squeeze_132 rfl ?_
                  refine sp_topi (y := (nI (sg_at S P))) (sg_at_w _ (by omega)) ?_
                  refine lv_istore_n (lv' := [(1, .int (nI (sg_at S P))), (0, .ref (ad 0))]) hx hb dX1_squeeze_133 rfl hl (by decide) rfl (fun ls hl => ?_)
                  refine lv_aload_n hx hb dX1_squeeze_134 rfl (lv_at hl 1 rfl) ?_
                  refine lv_dup hx hb dX1_squeeze_135 rfl ?_
                  refine sp_get1 (v := .int (nI P)) F hK hI.1 rfl 3 (by decide) q129 rfl rfl dX1_squeeze_136 ?_
                  refine lv_iconst (v := nI 1) hx hb dX1_squeeze_139 kc_1 ?_
                  refine sp_iadd (z := P + 1) hx hb rfl dX1_squeeze_140 ?_
                  refine sp_put1 (v := .int (nI (P + 1))) (ty := .int) F hK hI rfl 3 (by decide) q129 rfl rfl (by decide +kernel) rfl rfl (Nat.le_of_ble_eq_true rfl) dX1_squeeze_141 (fun H locs hI => ?_)
                  have hI : sp_in D A _ (mdW ad d st ot sm (nI rdy) (nI 1) (nI 0) (nI (P + 1)) ta (nI g)) H locs := hI
                  refine lv_aload_n hx hb dX1_squeeze_144 rfl (lv_at hl 1 rfl) ?_
                  refine lv_dup hx hb dX1_squeeze_145 rfl ?_
                  refine sp_get1 (v := .int (nI g)) F hK hI.1 rfl 5 (by decide) q131 rfl rfl dX1_squeeze_146 ?_
                  refine lv_iconst (v := nI 1) hx hb dX1_squeeze_149 kc_1 ?_
                  refine sp_iadd (z := g + 1) hx hb rfl dX1_squeeze_150 ?_
                  refine sp_put1 (v := .int (nI (g + 1))) (ty := .int) F hK hI rfl 5 (by decide) q131 rfl rfl (by decide +kernel) rfl rfl (Nat.le_of_ble_eq_true rfl) dX1_squeeze_151 (fun H locs hI => ?_)
                  have hI : sp_in D A _ (mdW ad d st ot sm (nI rdy) (nI 1) (nI 0) (nI (P + 1)) ta (nI (g + 1))) H locs := hI
                  refine lv_iload_n hx hb dX1_squeeze_154 rfl (lv_at hl 0 rfl) ?_
                  exact W.iret hx hb hr (fun t ht hW => ⟨⟨_, (sg_m3 st ot sm, sg_g6 (nI rdy) (nI 1) (nI 0) (nI (P + 1)) ta (nI (g + 1))), rfl, by rw [hf]; exact ⟨rfl, rfl, rfl, rfl, rfl, fun _ => ⟨rfl, rfl, hS⟩⟩, by rw [ht]; exact hI.1, va_K.moved hW.alike hK, hI.2.1⟩, hI.2.2.F ht⟩) hI.2.2.2.2 dX1_squeeze_155
                · have hf : sg_squeeze (rdy, 2, 0, P, g, ta, S) = (nI (sg_at (sg_P S) 0), (rdy, 2, 0, 1, g + 1, ta, sg_P S)) := by rw [hf0, if_pos d6]
                  refine lv_aload_n hx hb dX1_squeeze_96 rfl (lv_at hl 0 rfl) ?_
                  refine sp_callV (ci := 1) 0 F (met1_permute l D ad d _ st ot sm (nI rdy) (nI 1) (nI 0) (nI P) ta (nI g) S hS) (lw_V q174 q176 qs7 q13 q177) rfl rfl (by decide +kernel) hR hK hI hA rfl rfl rfl hl.1 rfl (Nat.le_of_ble_eq_true rfl) dX1_squeeze_97 (fun x3 H locs hx3 hI => ?_)
                  have hI : sp_in D A _ (mdW ad d (x3 0) (x3 1) (x3 2) (nI rdy) (nI 1) (nI 0) (nI P) ta (nI g)) H locs := hI
                  refine lv_aload_n hx hb dX1_squeeze_100 rfl (lv_at hl 0 rfl) ?_
                  refine lv_iconst (v := nI 0) hx hb dX1_squeeze_101 kc_0 ?_
                  refine sp_put1 (v := .int (nI 0)) (ty := .int) F hK hI rfl 3 (by decide) q129 rfl rfl (by decide +kernel) rfl rfl (Nat.le_of_ble_eq_true rfl) dX1_squeeze_102 (fun H locs hI => ?_)
                  have hI : sp_in D A _ (mdW ad d (x3 0) (x3 1) (x3 2) (nI rdy) (nI 1) (nI 0) (nI 0) ta (nI g)) H locs := hI
                  refine lv_aload_n hx hb dX1_squeeze_105 rfl (lv_at hl 0 rfl) ?_
                  refine sp_get1 (v := .ref (ad 1)) F hK hI.1 rfl 6 (by decide) q132 rfl rfl dX1_squeeze_106 ?_
                  refine lv_aload_n hx hb dX1_squeeze_109 rfl (lv_at hl 0 rfl) ?_
                  refine sp_get1 (v := .int (nI 0)) F hK hI.1 rfl 3 (by decide) q129 rfl rfl dX1_squeeze_110 ?_
                  refine lv_bipush (v := nI 8) hx hb dX1_squeeze_113 kb_8 ?_
                  refine sp_idiv (z := 0 / 8) hx hb (by omega) (by decide) (by decide) rfl dX1_squeeze_115 ?_
                  refine sp_lald (v := (sg_w ((sg_P S) (0 / 8)))) hx hb hK hI.1 1 rfl rfl (by decide) (by omega) (hx3 _ (by omega)) dX1_squeeze_116 ?_
                  refine lv_bipush (v := nI 8) hx hb dX1_squeeze_117 kb_8 ?_
                  refine lv_aload_n hx hb dX1_squeeze_119 rfl (lv_at hl 0 rfl) ?_
                  refine sp_get1 (v := .int (nI 0)) F hK hI.1 rfl 3 (by decide) q129 rfl rfl dX1_squeeze_120 ?_
                  refine lv_bipush (v := nI 8) hx hb dX1_squeeze_123 kb_8 ?_
                  refine sp_irem (z := 0 % 8) hx hb (by omega) (by decide) (by decide) rfl dX1_squeeze_125 ?_
                  refine sp_imul (z := 8 * (0 % 8)) hx hb rfl dX1_squeeze_126 ?_
                  refine lv_lushr hx hb dX1_squeeze_127 rfl ?_
                  refine lv_ldc2 (v := 255) hx hb F.2.2.2.1 (F.2.2.2.2 _ q198) dX1_squeeze_128 ?_
                  refine lv_land hx hb dX1_squeeze_131 ?_
                  refine lv_l2i hx hb dX1_squeeze_132 rfl ?_
                  refine sp_topi (y := (nI (sg_at (sg_P S) 0))) (sg_at_w _ (by omega)) ?_
                  refine lv_istore_n (lv' := [(1, .int (nI (sg_at (sg_P S) 0))), (0, .ref (ad 0))]) hx hb dX1_squeeze_133 rfl hl (by decide) rfl (fun ls hl => ?_)
                  refine lv_aload_n hx hb dX1_squeeze_134 rfl (lv_at hl 1 rfl) ?_
                  refine lv_dup hx hb dX1_squeeze_135 rfl ?_
                  refine sp_get1 (v := .int (nI 0)) F hK hI.1 rfl 3 (by decide) q129 rfl rfl dX1_squeeze_136 ?_
                  refine lv_iconst (v := nI 1) hx hb dX1_squeeze_139 kc_1 ?_
                  refine sp_iadd (z := 1) hx hb rfl dX1_squeeze_140 ?_
                  refine sp_put1 (v := .int (nI 1)) (ty := .int) F hK hI rfl 3 (by decide) q129 rfl rfl (by decide +kernel) rfl rfl (Nat.le_of_ble_eq_true rfl) dX1_squeeze_141 (fun H locs hI => ?_)
                  have hI : sp_in D A _ (mdW ad d (x3 0) (x3 1) (x3 2) (nI rdy) (nI 1) (nI 0) (nI 1) ta (nI g)) H locs := hI
                  refine lv_aload_n hx hb dX1_squeeze_144 rfl (lv_at hl 1 rfl) ?_
                  refine lv_dup hx hb dX1_squeeze_145 rfl ?_
                  refine sp_get1 (v := .int (nI g)) F hK hI.1 rfl 5 (by decide) q131 rfl rfl dX1_squeeze_146 ?_
                  refine lv_iconst (v := nI 1) hx hb dX1_squeeze_149 kc_1 ?_
                  refine sp_iadd (z := g + 1) hx hb rfl dX1_squeeze_150 ?_
                  refine sp_put1 (v := .int (nI (g + 1))) (ty := .int) F hK hI rfl 5 (by decide) q131 rfl rfl (by decide +kernel) rfl rfl (Nat.le_of_ble_eq_true rfl) dX1_squeeze_151 (fun H locs hI => ?_)
                  have hI : sp_in D A _ (mdW ad d (x3 0) (x3 1) (x3 2) (nI rdy) (nI 1) (nI 0) (nI 1) ta (nI (g + 1))) H locs := hI
                  refine lv_iload_n hx hb dX1_squeeze_154 rfl (lv_at hl 0 rfl) ?_
                  exact W.iret hx hb hr (fun t ht hW => ⟨⟨_, (sg_m3 (x3 0) (x3 1) (x3 2), sg_g6 (nI rdy) (nI 1) (nI 0) (nI 1) ta (nI (g + 1))), rfl, by rw [hf]; exact ⟨rfl, rfl, rfl, rfl, rfl, fun _ => ⟨rfl, rfl, hx3⟩⟩, by rw [ht]; exact hI.1, va_K.moved hW.alike hK, hI.2.1⟩, hI.2.2.F ht⟩) hI.2.2.2.2 dX1_squeeze_155
              · exact absurd d4 (by omega)
            · exact absurd d3 (by omega)
        · exact absurd d1 (by omega)
      · have hro := a4
        refine Met.ofW (cc := cX1_squeeze) (maxL := 2) (ret := (some .int)) (by decide) rfl ?_
        intro p e s m args below meth c s₁ B hml hv
        obtain ⟨rfl, hsz, hPw, hK, hD0⟩ := hv
        subst hsz
        have hts := atoms_spec (ws := ws_ yX1_squeeze cX1_squeeze 2 (some .int)) B.pre
        have F : CallFix p m c cX1_squeeze 2 s ([.ref (ad 0)] : List Value).toArray lw_all RX1 := ⟨B.exec, B.bytes, hml, findClass_of_methodNamed B.named, fun w h => hts w (List.mem_cons_of_mem _ h)⟩
        have hx := F.1
        have hb := F.2.1
        have hr := B.returns
        have hlocks := B.notSynchronized
        have hD := hD0.self (sz := s.heap.size)
        generalize hAe : va_A (mdW ad d st ot sm (nI rdy) (nI 1) (nI 1) (nI P) ta (nI g)) s.heap.size = A at hD ⊢
        have hA : ∀ q : Nat, s.heap.size ≤ q → A q := fun q h => by rw [← hAe]; exact Or.inr h
        have hI : sp_in D A s.heap (mdW ad d st ot sm (nI rdy) (nI 1) (nI 1) (nI P) ta (nI g)) s.heap [] := ⟨hPw, hD, va_S.rf⟩
        have hl := lv_entry ([.ref (ad 0)]) (n := 2) (Nat.le_of_ble_eq_true rfl)
        rw [lg_entry_eq]
        generalize (lg_sl ([.ref (ad 0)]) ++ List.replicate (2 - (lg_sl ([.ref (ad 0)])).length) Slot.unset).toArray = ls at hl ⊢
        have hl : lv_has ls 2 [(0, .ref (ad 0))] := hl
        have hR : 2 + 1 ≤ (headSpec (ws_ yX1_squeeze cX1_squeeze 2 (some .int)) { frames := 3, cells := 0, slots := 0, locals := 71 }).room.frames ∧ 8 + (5 + 11) + 47 ≤ (headSpec (ws_ yX1_squeeze cX1_squeeze 2 (some .int)) { frames := 3, cells := 0, slots := 0, locals := 71 }).room.locals := ⟨Nat.le_of_ble_eq_true rfl, Nat.le_of_ble_eq_true rfl⟩
        have hRp : 0 + 1 ≤ (headSpec (ws_ yX1_squeeze cX1_squeeze 2 (some .int)) { frames := 3, cells := 0, slots := 0, locals := 71 }).room.frames ∧ 8 + (3 + 11) + 0 ≤ (headSpec (ws_ yX1_squeeze cX1_squeeze 2 (some .int)) { frames := 3, cells := 0, slots := 0, locals := 71 }).room.locals := ⟨Nat.le_of_ble_eq_true rfl, Nat.le_of_ble_eq_true rfl⟩
        have hRr : 0 + 1 ≤ (headSpec (ws_ yX1_squeeze cX1_squeeze 2 (some .int)) { frames := 3, cells := 0, slots := 0, locals := 71 }).room.frames ∧ 8 + (1 + 11) + 0 ≤ (headSpec (ws_ yX1_squeeze cX1_squeeze 2 (some .int)) { frames := 3, cells := 0, slots := 0, locals := 71 }).room.locals := ⟨Nat.le_of_ble_eq_true rfl, Nat.le_of_ble_eq_true rfl⟩
        refine lv_aload_n hx hb dX1_squeeze_0 rfl (lv_at hl 0 rfl) ?_
        refine sp_get1 (v := .int (nI 1)) F hK hI.1 rfl 1 (by decide) q127 rfl rfl dX1_squeeze_1 ?_
        refine sp_ifn (tgt := 9) hx hb (by omega) dX1_squeeze_4 (by decide) (fun d1 => ?_) (fun d1 => ?_)
        · refine lv_aload_n hx hb dX1_squeeze_9 rfl (lv_at hl 0 rfl) ?_
          refine sp_get1 (v := .int (nI 1)) F hK hI.1 rfl 2 (by decide) q128 rfl rfl dX1_squeeze_10 ?_
          refine sp_ifn (tgt := 28) hx hb (by omega) dX1_squeeze_13 (by decide) (fun d2 => ?_) (fun d2 => ?_)
          · refine lv_aload_n hx hb dX1_squeeze_28 rfl (lv_at hl 0 rfl) ?_
            refine sp_get1 (v := .int (nI g)) F hK hI.1 rfl 5 (by decide) q131 rfl rfl dX1_squeeze_29 ?_
            refine sp_ifn (tgt := 82) hx hb (by omega) dX1_squeeze_32 (by decide) (fun d4 => ?_) (fun d4 => ?_)
            · refine lv_aload_n hx hb dX1_squeeze_82 rfl (lv_at hl 0 rfl) ?_
              refine sp_get1 (v := .int (nI P)) F hK hI.1 rfl 3 (by decide) q129 rfl rfl dX1_squeeze_83 ?_
              refine lv_aload_n hx hb dX1_squeeze_86 rfl (lv_at hl 0 rfl) ?_
              refine sp_get1 (v := .int (nI 1)) F hK hI.1 rfl 2 (by decide) q128 rfl rfl dX1_squeeze_87 ?_
              refine sp_callSi 1 F (met_rate l 1 (by omega)) (lw_S q171 q172 q13 q173) rfl rfl (by decide +kernel) hRr hI rfl hl.1 rfl (Nat.le_of_ble_eq_true rfl) dX1_squeeze_90 (fun r H locs hr2 hI => ?_)
              refine sp_topi (y := (nI (sg_rate 1))) hr2 ?_
              refine sp_ne (tgt := 105) hx hb (by omega) (by omega)  dX1_squeeze_93 (by decide) (fun d6 => ?_) (fun d6 => ?_)
              · have hf : sg_squeeze (rdy, 2, 1, P, g, ta, S) = (nI (sg_at S P), (rdy, 2, 1, P + 1, g + 1, ta, S)) := by rw [hf0, if_neg d6]
                refine lv_aload_n hx hb dX1_squeeze_105 rfl (lv_at hl 0 rfl) ?_
                refine sp_get1 (v := .ref (ad 1)) F hK hI.1 rfl 6 (by decide) q132 rfl rfl dX1_squeeze_106 ?_
                refine lv_aload_n hx hb dX1_squeeze_109 rfl (lv_at hl 0 rfl) ?_
                refine sp_get1 (v := .int (nI P)) F hK hI.1 rfl 3 (by decide) q129 rfl rfl dX1_squeeze_110 ?_
                refine lv_bipush (v := nI 8) hx hb dX1_squeeze_113 kb_8 ?_
                refine sp_idiv (z := P / 8) hx hb (by omega) (by decide) (by decide) rfl dX1_squeeze_115 ?_
                refine sp_lald (v := (sg_w (S (P / 8)))) hx hb hK hI.1 1 rfl rfl (by decide) (by omega) (hS _ (by omega)) dX1_squeeze_116 ?_
                refine lv_bipush (v := nI 8) hx hb dX1_squeeze_117 kb_8 ?_
                refine lv_aload_n hx hb dX1_squeeze_119 rfl (lv_at hl 0 rfl) ?_
                refine sp_get1 (v := .int (nI P)) F hK hI.1 rfl 3 (by decide) q129 rfl rfl dX1_squeeze_120 ?_
                refine lv_bipush (v := nI 8) hx hb dX1_squeeze_123 kb_8 ?_
                refine sp_irem (z := P % 8) hx hb (by omega) (by decide) (by decide) rfl dX1_squeeze_125 ?_
                refine sp_imul (z := 8 * (P % 8)) hx hb rfl dX1_squeeze_126 ?_
                refine lv_lushr hx hb dX1_squeeze_127 rfl ?_
                refine lv_ldc2 (v := 255) hx hb F.2.2.2.1 (F.2.2.2.2 _ q198) dX1_squeeze_128 ?_
                refine lv_land hx hb dX1_squeeze_131 ?_
                refine lv_l2i hx hb dX1_squeeze_132 rfl ?_
                refine sp_topi (y := (nI (sg_at S P))) (sg_at_w _ (by omega)) ?_
                refine lv_istore_n (lv' := [(1, .int (nI (sg_at S P))), (0, .ref (ad 0))]) hx hb dX1_squeeze_133 rfl hl (by decide) rfl (fun ls hl => ?_)
                refine lv_aload_n hx hb dX1_squeeze_134 rfl (lv_at hl 1 rfl) ?_
                refine lv_dup hx hb dX1_squeeze_135 rfl ?_
                refine sp_get1 (v := .int (nI P)) F hK hI.1 rfl 3 (by decide) q129 rfl rfl dX1_squeeze_136 ?_
                refine lv_iconst (v := nI 1) hx hb dX1_squeeze_139 kc_1 ?_
                refine sp_iadd (z := P + 1) hx hb rfl dX1_squeeze_140 ?_
                refine sp_put1 (v := .int (nI (P + 1))) (ty := .int) F hK hI rfl 3 (by decide) q129 rfl rfl (by decide +kernel) rfl rfl (Nat.le_of_ble_eq_true rfl) dX1_squeeze_141 (fun H locs hI => ?_)
                have hI : sp_in D A _ (mdW ad d st ot sm (nI rdy) (nI 1) (nI 1) (nI (P + 1)) ta (nI g)) H locs := hI
                refine lv_aload_n hx hb dX1_squeeze_144 rfl (lv_at hl 1 rfl) ?_
                refine lv_dup hx hb dX1_squeeze_145 rfl ?_
                refine sp_get1 (v := .int (nI g)) F hK hI.1 rfl 5 (by decide) q131 rfl rfl dX1_squeeze_146 ?_
                refine lv_iconst (v := nI 1) hx hb dX1_squeeze_149 kc_1 ?_
                refine sp_iadd (z := g + 1) hx hb rfl dX1_squeeze_150 ?_
                refine sp_put1 (v := .int (nI (g + 1))) (ty := .int) F hK hI rfl 5 (by decide) q131 rfl rfl (by decide +kernel) rfl rfl (Nat.le_of_ble_eq_true rfl) dX1_squeeze_151 (fun H locs hI => ?_)
                have hI : sp_in D A _ (mdW ad d st ot sm (nI rdy) (nI 1) (nI 1) (nI (P + 1)) ta (nI (g + 1))) H locs := hI
                refine lv_iload_n hx hb dX1_squeeze_154 rfl (lv_at hl 0 rfl) ?_
                exact W.iret hx hb hr (fun t ht hW => ⟨⟨_, (sg_m3 st ot sm, sg_g6 (nI rdy) (nI 1) (nI 1) (nI (P + 1)) ta (nI (g + 1))), rfl, by rw [hf]; exact ⟨rfl, rfl, rfl, rfl, rfl, fun _ => ⟨rfl, rfl, hS⟩⟩, by rw [ht]; exact hI.1, va_K.moved hW.alike hK, hI.2.1⟩, hI.2.2.F ht⟩) hI.2.2.2.2 dX1_squeeze_155
              · have hf : sg_squeeze (rdy, 2, 1, P, g, ta, S) = (nI (sg_at (sg_P S) 0), (rdy, 2, 1, 1, g + 1, ta, sg_P S)) := by rw [hf0, if_pos d6]
                refine lv_aload_n hx hb dX1_squeeze_96 rfl (lv_at hl 0 rfl) ?_
                refine sp_callV (ci := 1) 0 F (met1_permute l D ad d _ st ot sm (nI rdy) (nI 1) (nI 1) (nI P) ta (nI g) S hS) (lw_V q174 q176 qs7 q13 q177) rfl rfl (by decide +kernel) hR hK hI hA rfl rfl rfl hl.1 rfl (Nat.le_of_ble_eq_true rfl) dX1_squeeze_97 (fun x3 H locs hx3 hI => ?_)
                have hI : sp_in D A _ (mdW ad d (x3 0) (x3 1) (x3 2) (nI rdy) (nI 1) (nI 1) (nI P) ta (nI g)) H locs := hI
                refine lv_aload_n hx hb dX1_squeeze_100 rfl (lv_at hl 0 rfl) ?_
                refine lv_iconst (v := nI 0) hx hb dX1_squeeze_101 kc_0 ?_
                refine sp_put1 (v := .int (nI 0)) (ty := .int) F hK hI rfl 3 (by decide) q129 rfl rfl (by decide +kernel) rfl rfl (Nat.le_of_ble_eq_true rfl) dX1_squeeze_102 (fun H locs hI => ?_)
                have hI : sp_in D A _ (mdW ad d (x3 0) (x3 1) (x3 2) (nI rdy) (nI 1) (nI 1) (nI 0) ta (nI g)) H locs := hI
                refine lv_aload_n hx hb dX1_squeeze_105 rfl (lv_at hl 0 rfl) ?_
                refine sp_get1 (v := .ref (ad 1)) F hK hI.1 rfl 6 (by decide) q132 rfl rfl dX1_squeeze_106 ?_
                refine lv_aload_n hx hb dX1_squeeze_109 rfl (lv_at hl 0 rfl) ?_
                refine sp_get1 (v := .int (nI 0)) F hK hI.1 rfl 3 (by decide) q129 rfl rfl dX1_squeeze_110 ?_
                refine lv_bipush (v := nI 8) hx hb dX1_squeeze_113 kb_8 ?_
                refine sp_idiv (z := 0 / 8) hx hb (by omega) (by decide) (by decide) rfl dX1_squeeze_115 ?_
                refine sp_lald (v := (sg_w ((sg_P S) (0 / 8)))) hx hb hK hI.1 1 rfl rfl (by decide) (by omega) (hx3 _ (by omega)) dX1_squeeze_116 ?_
                refine lv_bipush (v := nI 8) hx hb dX1_squeeze_117 kb_8 ?_
                refine lv_aload_n hx hb dX1_squeeze_119 rfl (lv_at hl 0 rfl) ?_
                refine sp_get1 (v := .int (nI 0)) F hK hI.1 rfl 3 (by decide) q129 rfl rfl dX1_squeeze_120 ?_
                refine lv_bipush (v := nI 8) hx hb dX1_squeeze_123 kb_8 ?_
                refine sp_irem (z := 0 % 8) hx hb (by omega) (by decide) (by decide) rfl dX1_squeeze_125 ?_
                refine sp_imul (z := 8 * (0 % 8)) hx hb rfl dX1_squeeze_126 ?_
                refine lv_lushr hx hb dX1_squeeze_127 rfl ?_
                refine lv_ldc2 (v := 255) hx hb F.2.2.2.1 (F.2.2.2.2 _ q198) dX1_squeeze_128 ?_
                refine lv_land hx hb dX1_squeeze_131 ?_
                refine lv_l2i hx hb dX1_squeeze_132 rfl ?_
                refine sp_topi (y := (nI (sg_at (sg_P S) 0))) (sg_at_w _ (by omega)) ?_
                refine lv_istore_n (lv' := [(1, .int (nI (sg_at (sg_P S) 0))), (0, .ref (ad 0))]) hx hb dX1_squeeze_133 rfl hl (by decide) rfl (fun ls hl => ?_)
                refine lv_aload_n hx hb dX1_squeeze_134 rfl (lv_at hl 1 rfl) ?_
                refine lv_dup hx hb dX1_squeeze_135 rfl ?_
                refine sp_get1 (v := .int (nI 0)) F hK hI.1 rfl 3 (by decide) q129 rfl rfl dX1_squeeze_136 ?_
                refine lv_iconst (v := nI 1) hx hb dX1_squeeze_139 kc_1 ?_
                refine sp_iadd (z := 1) hx hb rfl dX1_squeeze_140 ?_
                refine sp_put1 (v := .int (nI 1)) (ty := .int) F hK hI rfl 3 (by decide) q129 rfl rfl (by decide +kernel) rfl rfl (Nat.le_of_ble_eq_true rfl) dX1_squeeze_141 (fun H locs hI => ?_)
                have hI : sp_in D A _ (mdW ad d (x3 0) (x3 1) (x3 2) (nI rdy) (nI 1) (nI 1) (nI 1) ta (nI g)) H locs := hI
                refine lv_aload_n hx hb dX1_squeeze_144 rfl (lv_at hl 1 rfl) ?_
                refine lv_dup hx hb dX1_squeeze_145 rfl ?_
                refine sp_get1 (v := .int (nI g)) F hK hI.1 rfl 5 (by decide) q131 rfl rfl dX1_squeeze_146 ?_
                refine lv_iconst (v := nI 1) hx hb dX1_squeeze_149 kc_1 ?_
                refine sp_iadd (z := g + 1) hx hb rfl dX1_squeeze_150 ?_
                refine sp_put1 (v := .int (nI (g + 1))) (ty := .int) F hK hI rfl 5 (by decide) q131 rfl rfl (by decide +kernel) rfl rfl (Nat.le_of_ble_eq_true rfl) dX1_squeeze_151 (fun H locs hI => ?_)
                have hI : sp_in D A _ (mdW ad d (x3 0) (x3 1) (x3 2) (nI rdy) (nI 1) (nI 1) (nI 1) ta (nI (g + 1))) H locs := hI
                refine lv_iload_n hx hb dX1_squeeze_154 rfl (lv_at hl 0 rfl) ?_
                exact W.iret hx hb hr (fun t ht hW => ⟨⟨_, (sg_m3 (x3 0) (x3 1) (x3 2), sg_g6 (nI rdy) (nI 1) (nI 1) (nI 1) ta (nI (g + 1))), rfl, by rw [hf]; exact ⟨rfl, rfl, rfl, rfl, rfl, fun _ => ⟨rfl, rfl, hx3⟩⟩, by rw [ht]; exact hI.1, va_K.moved hW.alike hK, hI.2.1⟩, hI.2.2.F ht⟩) hI.2.2.2.2 dX1_squeeze_155
            · exact absurd d4 (by omega)
          · exact absurd d2 (by omega)
        · exact absurd d1 (by omega)
set_option maxHeartbeats 4000000 in
set_option maxRecDepth 100000 in
/-- lane -/
theorem met1_lane (l : Launch) (D : va_G) (ad : Nat → Nat) (d : ClassId) (sz : Nat) (st ot sm : Nat → Int64) (ir ib wa pl ta co : Int32) (rdy q w P g : Nat) (tk : Int32) (S : Nat → BitVec 64) (hC : sg_MR (rdy, q, w, P, g, tk, S) st ir ib wa pl ta co) (n0 : Nat) (hn0 : n0 < 2 ^ 30) (hAI : sg_AI n0 (rdy, q, w, P, g, tk, S)) (i h : Int32) : Met l yX1_lane (ws_ yX1_lane cX1_lane 3 (some .int)) { frames := 0, cells := 0, slots := 0, locals := 0 } (va_Pc [.ref (ad 0), .int i, .int h] (sp_pre D [(d, .long)] sz (mdW ad d st ot sm ir ib wa pl ta co))) (va_Qi (fun (r : Int32) (_ : Unit) => r = sg_lane (rdy, q, w, P, g, tk, S) i h) (sp_end D [(d, .long)] (va_A (mdW ad d st ot sm ir ib wa pl ta co) sz) (fun _ : Unit => mdW ad d st ot sm ir ib wa pl ta co)) (va_A (mdW ad d st ot sm ir ib wa pl ta co) sz)) 0 0 (va_A (mdW ad d st ot sm ir ib wa pl ta co) sz) := by
  obtain ⟨c1, c2, c3, c4, c7⟩ := hC
  subst c1
  subst c3
  subst c4
  obtain ⟨a1, a2, a3, a4, a5, a6, a7, a8⟩ := hAI
  by_cases hok : q ≠ 0 ∧ ¬ i < 0 ∧ ¬ nI 25 ≤ i ∧ ¬ h < 0 ∧ h ≤ nI 1
  · obtain ⟨k, hk, rfl⟩ : ∃ j : Nat, j < 25 ∧ i = nI j := by
      rcases pk_ix i (n := 25) (by decide) with z | z | z
      · exact absurd z hok.2.1
      · exact absurd z hok.2.2.1
      · exact z
    obtain ⟨b, hb1, rfl⟩ := nI_of2 (M := nI 1) (n := 1) (by decide) hok.2.2.2.1 hok.2.2.2.2
    rw [if_neg hok.1] at c2
    subst c2
    obtain ⟨k1, k2, hS⟩ := c7 hok.1
    subst k1
    subst k2
    have hf : sg_lane (rdy, q, w, P, g, ta, S) (nI k) (nI b) = if nI b = nI 0 then sg_l (S k) else sg_h (S k) := by rw [sg_lane, if_pos hok, nI_clamp (by omega)]
    refine Met.ofW (cc := cX1_lane) (maxL := 3) (ret := (some .int)) (by decide) rfl ?_
    intro p e s m args below meth c s₁ B hml hv
    obtain ⟨rfl, hsz, hPw, hK, hD0⟩ := hv
    subst hsz
    have hts := atoms_spec (ws := ws_ yX1_lane cX1_lane 3 (some .int)) B.pre
    have F : CallFix p m c cX1_lane 3 s ([.ref (ad 0), .int (nI k), .int (nI b)] : List Value).toArray lw_all RX1 := ⟨B.exec, B.bytes, hml, findClass_of_methodNamed B.named, fun w h => hts w (List.mem_cons_of_mem _ h)⟩
    have hx := F.1
    have hb := F.2.1
    have hr := B.returns
    have hlocks := B.notSynchronized
    have hD := hD0.self (sz := s.heap.size)
    generalize hAe : va_A (mdW ad d st ot sm (nI rdy) (nI 1) (nI w) (nI P) ta (nI g)) s.heap.size = A at hD ⊢
    have hA : ∀ q : Nat, s.heap.size ≤ q → A q := fun q h => by rw [← hAe]; exact Or.inr h
    have hI : sp_in D A s.heap (mdW ad d st ot sm (nI rdy) (nI 1) (nI w) (nI P) ta (nI g)) s.heap [] := ⟨hPw, hD, va_S.rf⟩
    have hl := lv_entry ([.ref (ad 0), .int (nI k), .int (nI b)]) (n := 3) (Nat.le_of_ble_eq_true rfl)
    rw [lg_entry_eq]
    generalize (lg_sl ([.ref (ad 0), .int (nI k), .int (nI b)]) ++ List.replicate (3 - (lg_sl ([.ref (ad 0), .int (nI k), .int (nI b)])).length) Slot.unset).toArray = ls at hl ⊢
    have hl : lv_has ls 3 [(0, .ref (ad 0)), (1, .int (nI k)), (2, .int (nI b))] := hl
    refine lv_aload_n hx hb dX1_lane_0 rfl (lv_at hl 0 rfl) ?_
    refine sp_get1 (v := .int (nI 1)) F hK hI.1 rfl 1 (by decide) q127 rfl rfl dX1_lane_1 ?_
    refine sp_ife (tgt := 26) hx hb (by omega) dX1_lane_4 (by decide) (fun d1 => ?_) (fun d1 => ?_)
    · exact absurd d1 (by decide)
    · refine lv_iload_n hx hb dX1_lane_7 rfl (lv_at hl 1 rfl) ?_
      refine lv_if_lt (tgt := 26) hx hb dX1_lane_8 (by decide) (fun d2 => ?_) (fun d2 => ?_)
      · exact absurd d2 (nI_pos (by omega))
      · refine lv_iload_n hx hb dX1_lane_11 rfl (lv_at hl 1 rfl) ?_
        refine lv_bipush (v := nI 25) hx hb dX1_lane_12 kb_25 ?_
        refine sp_ge (tgt := 26) hx hb (by omega) (by omega)  dX1_lane_14 (by decide) (fun d3 => ?_) (fun d3 => ?_)
        · exact absurd d3 (by omega)
        · refine lv_iload_n hx hb dX1_lane_17 rfl (lv_at hl 2 rfl) ?_
          refine lv_if_lt (tgt := 26) hx hb dX1_lane_18 (by decide) (fun d4 => ?_) (fun d4 => ?_)
          · exact absurd d4 (nI_pos (by omega))
          · refine lv_iload_n hx hb dX1_lane_21 rfl (lv_at hl 2 rfl) ?_
            refine lv_iconst (v := nI 1) hx hb dX1_lane_22 kc_1 ?_
            refine sp_le (tgt := 28) hx hb (by omega) (by omega)  dX1_lane_23 (by decide) (fun d5 => ?_) (fun d5 => ?_)
            · refine lv_iload_n hx hb dX1_lane_28 rfl (lv_at hl 2 rfl) ?_
              refine sp_ifn (tgt := 41) hx hb (by omega) dX1_lane_29 (by decide) (fun d6 => ?_) (fun d6 => ?_)
              · refine lv_aload_n hx hb dX1_lane_41 rfl (lv_at hl 0 rfl) ?_
                refine sp_get1 (v := .ref (ad 1)) F hK hI.1 rfl 6 (by decide) q132 rfl rfl dX1_lane_42 ?_
                refine lv_iload_n hx hb dX1_lane_45 rfl (lv_at hl 1 rfl) ?_
                refine sp_lald (v := (sg_w (S k))) hx hb hK hI.1 1 rfl rfl (by decide) (by omega) (hS _ hk) dX1_lane_46 ?_
                refine lv_bipush (v := nI 32) hx hb dX1_lane_47 kb_32 ?_
                refine lv_lushr hx hb dX1_lane_49 rfl ?_
                refine lv_l2i hx hb dX1_lane_50 rfl ?_
                refine sp_topi (y := (sg_h (S k))) (sg_lane1 _) ?_
                exact W.iret hx hb hr (fun t ht hW => ⟨⟨_, (), rfl, by rw [hf, if_neg (fun z => d6 ((nI_eq (by omega) (by decide)).mp z))], by rw [ht]; exact hI.1, va_K.moved hW.alike hK, hI.2.1⟩, hI.2.2.F ht⟩) hI.2.2.2.2 dX1_lane_51
              · refine lv_aload_n hx hb dX1_lane_32 rfl (lv_at hl 0 rfl) ?_
                refine sp_get1 (v := .ref (ad 1)) F hK hI.1 rfl 6 (by decide) q132 rfl rfl dX1_lane_33 ?_
                refine lv_iload_n hx hb dX1_lane_36 rfl (lv_at hl 1 rfl) ?_
                refine sp_lald (v := (sg_w (S k))) hx hb hK hI.1 1 rfl rfl (by decide) (by omega) (hS _ hk) dX1_lane_37 ?_
                refine lv_goto (tgt := 50) hx hb dX1_lane_38 (by decide) ?_
                refine lv_l2i hx hb dX1_lane_50 rfl ?_
                refine sp_topi (y := (sg_l (S k))) (sg_lane0 _) ?_
                exact W.iret hx hb hr (fun t ht hW => ⟨⟨_, (), rfl, by rw [hf, d6, if_pos rfl], by rw [ht]; exact hI.1, va_K.moved hW.alike hK, hI.2.1⟩, hI.2.2.F ht⟩) hI.2.2.2.2 dX1_lane_51
            · exact absurd d5 (by omega)
  · have hf : sg_lane (rdy, q, w, P, g, ta, S) i h = nI 0 := by rw [sg_lane, if_neg hok]
    by_cases hq : q = 0
    · have c9 : ib = nI 0 := by rw [if_pos hq] at c2; exact c2
      refine Met.ofW (cc := cX1_lane) (maxL := 3) (ret := (some .int)) (by decide) rfl ?_
      intro p e s m args below meth c s₁ B hml hv
      obtain ⟨rfl, hsz, hPw, hK, hD0⟩ := hv
      subst hsz
      have hts := atoms_spec (ws := ws_ yX1_lane cX1_lane 3 (some .int)) B.pre
      have F : CallFix p m c cX1_lane 3 s ([.ref (ad 0), .int i, .int h] : List Value).toArray lw_all RX1 := ⟨B.exec, B.bytes, hml, findClass_of_methodNamed B.named, fun w h => hts w (List.mem_cons_of_mem _ h)⟩
      have hx := F.1
      have hb := F.2.1
      have hr := B.returns
      have hlocks := B.notSynchronized
      have hD := hD0.self (sz := s.heap.size)
      generalize hAe : va_A (mdW ad d st ot sm (nI rdy) ib wa pl ta (nI g)) s.heap.size = A at hD ⊢
      have hA : ∀ q : Nat, s.heap.size ≤ q → A q := fun q h => by rw [← hAe]; exact Or.inr h
      have hI : sp_in D A s.heap (mdW ad d st ot sm (nI rdy) ib wa pl ta (nI g)) s.heap [] := ⟨hPw, hD, va_S.rf⟩
      have hl := lv_entry ([.ref (ad 0), .int i, .int h]) (n := 3) (Nat.le_of_ble_eq_true rfl)
      rw [lg_entry_eq]
      generalize (lg_sl ([.ref (ad 0), .int i, .int h]) ++ List.replicate (3 - (lg_sl ([.ref (ad 0), .int i, .int h])).length) Slot.unset).toArray = ls at hl ⊢
      have hl : lv_has ls 3 [(0, .ref (ad 0)), (1, .int i), (2, .int h)] := hl
      refine lv_aload_n hx hb dX1_lane_0 rfl (lv_at hl 0 rfl) ?_
      refine sp_get1 (v := .int ib) F hK hI.1 rfl 1 (by decide) q127 rfl rfl dX1_lane_1 ?_
      refine sp_topi (y := (nI 0)) c9 ?_
      refine sp_ife (tgt := 26) hx hb (by omega) dX1_lane_4 (by decide) (fun d1 => ?_) (fun d1 => ?_)
      · refine lv_iconst (v := nI 0) hx hb dX1_lane_26 kc_0 ?_
        exact W.iret hx hb hr (fun t ht hW => ⟨⟨_, (), rfl, hf.symm, by rw [ht]; exact hI.1, va_K.moved hW.alike hK, hI.2.1⟩, hI.2.2.F ht⟩) hI.2.2.2.2 dX1_lane_27
      · exact absurd rfl d1
    · have c9 : ib = nI 1 := by rw [if_neg hq] at c2; exact c2
      refine Met.ofW (cc := cX1_lane) (maxL := 3) (ret := (some .int)) (by decide) rfl ?_
      intro p e s m args below meth c s₁ B hml hv
      obtain ⟨rfl, hsz, hPw, hK, hD0⟩ := hv
      subst hsz
      have hts := atoms_spec (ws := ws_ yX1_lane cX1_lane 3 (some .int)) B.pre
      have F : CallFix p m c cX1_lane 3 s ([.ref (ad 0), .int i, .int h] : List Value).toArray lw_all RX1 := ⟨B.exec, B.bytes, hml, findClass_of_methodNamed B.named, fun w h => hts w (List.mem_cons_of_mem _ h)⟩
      have hx := F.1
      have hb := F.2.1
      have hr := B.returns
      have hlocks := B.notSynchronized
      have hD := hD0.self (sz := s.heap.size)
      generalize hAe : va_A (mdW ad d st ot sm (nI rdy) ib wa pl ta (nI g)) s.heap.size = A at hD ⊢
      have hA : ∀ q : Nat, s.heap.size ≤ q → A q := fun q h => by rw [← hAe]; exact Or.inr h
      have hI : sp_in D A s.heap (mdW ad d st ot sm (nI rdy) ib wa pl ta (nI g)) s.heap [] := ⟨hPw, hD, va_S.rf⟩
      have hl := lv_entry ([.ref (ad 0), .int i, .int h]) (n := 3) (Nat.le_of_ble_eq_true rfl)
      rw [lg_entry_eq]
      generalize (lg_sl ([.ref (ad 0), .int i, .int h]) ++ List.replicate (3 - (lg_sl ([.ref (ad 0), .int i, .int h])).length) Slot.unset).toArray = ls at hl ⊢
      have hl : lv_has ls 3 [(0, .ref (ad 0)), (1, .int i), (2, .int h)] := hl
      refine lv_aload_n hx hb dX1_lane_0 rfl (lv_at hl 0 rfl) ?_
      refine sp_get1 (v := .int ib) F hK hI.1 rfl 1 (by decide) q127 rfl rfl dX1_lane_1 ?_
      refine sp_topi (y := (nI 1)) c9 ?_
      refine sp_ife (tgt := 26) hx hb (by omega) dX1_lane_4 (by decide) (fun d1 => ?_) (fun d1 => ?_)
      · exact absurd d1 (by decide)
      · refine lv_iload_n hx hb dX1_lane_7 rfl (lv_at hl 1 rfl) ?_
        refine lv_if_lt (tgt := 26) hx hb dX1_lane_8 (by decide) (fun d2 => ?_) (fun d2 => ?_)
        · refine lv_iconst (v := nI 0) hx hb dX1_lane_26 kc_0 ?_
          exact W.iret hx hb hr (fun t ht hW => ⟨⟨_, (), rfl, hf.symm, by rw [ht]; exact hI.1, va_K.moved hW.alike hK, hI.2.1⟩, hI.2.2.F ht⟩) hI.2.2.2.2 dX1_lane_27
        · refine lv_iload_n hx hb dX1_lane_11 rfl (lv_at hl 1 rfl) ?_
          refine lv_bipush (v := nI 25) hx hb dX1_lane_12 kb_25 ?_
          refine lv_icmp_ge (tgt := 26) hx hb dX1_lane_14 (by decide) (fun d3 => ?_) (fun d3 => ?_)
          · refine lv_iconst (v := nI 0) hx hb dX1_lane_26 kc_0 ?_
            exact W.iret hx hb hr (fun t ht hW => ⟨⟨_, (), rfl, hf.symm, by rw [ht]; exact hI.1, va_K.moved hW.alike hK, hI.2.1⟩, hI.2.2.F ht⟩) hI.2.2.2.2 dX1_lane_27
          · refine lv_iload_n hx hb dX1_lane_17 rfl (lv_at hl 2 rfl) ?_
            refine lv_if_lt (tgt := 26) hx hb dX1_lane_18 (by decide) (fun d4 => ?_) (fun d4 => ?_)
            · refine lv_iconst (v := nI 0) hx hb dX1_lane_26 kc_0 ?_
              exact W.iret hx hb hr (fun t ht hW => ⟨⟨_, (), rfl, hf.symm, by rw [ht]; exact hI.1, va_K.moved hW.alike hK, hI.2.1⟩, hI.2.2.F ht⟩) hI.2.2.2.2 dX1_lane_27
            · refine lv_iload_n hx hb dX1_lane_21 rfl (lv_at hl 2 rfl) ?_
              refine lv_iconst (v := nI 1) hx hb dX1_lane_22 kc_1 ?_
              refine lv_icmp_le (tgt := 28) hx hb dX1_lane_23 (by decide) (fun d5 => ?_) (fun d5 => ?_)
              · exact absurd ⟨hq, d2, d3, d4, d5⟩ hok
              · refine lv_iconst (v := nI 0) hx hb dX1_lane_26 kc_0 ?_
                exact W.iret hx hb hr (fun t ht hW => ⟨⟨_, (), rfl, hf.symm, by rw [ht]; exact hI.1, va_K.moved hW.alike hK, hI.2.1⟩, hI.2.2.F ht⟩) hI.2.2.2.2 dX1_lane_27
set_option maxHeartbeats 4000000 in
set_option maxRecDepth 100000 in
/-- count -/
theorem met1_count (l : Launch) (D : va_G) (ad : Nat → Nat) (d : ClassId) (sz : Nat) (st ot sm : Nat → Int64) (ir ib wa pl ta co : Int32) (rdy q w P g : Nat) (tk : Int32) (S : Nat → BitVec 64) (hC : sg_MR (rdy, q, w, P, g, tk, S) st ir ib wa pl ta co) (n0 : Nat) (hn0 : n0 < 2 ^ 30) (hAI : sg_AI n0 (rdy, q, w, P, g, tk, S)) : Met l yX1_count (ws_ yX1_count cX1_count 1 (some .int)) { frames := 0, cells := 0, slots := 0, locals := 0 } (va_Pc [.ref (ad 0)] (sp_pre D [(d, .long)] sz (mdW ad d st ot sm ir ib wa pl ta co))) (va_Qi (fun (r : Int32) (_ : Unit) => r = sg_count (rdy, q, w, P, g, tk, S)) (sp_end D [(d, .long)] (va_A (mdW ad d st ot sm ir ib wa pl ta co) sz) (fun _ : Unit => mdW ad d st ot sm ir ib wa pl ta co)) (va_A (mdW ad d st ot sm ir ib wa pl ta co) sz)) 0 0 (va_A (mdW ad d st ot sm ir ib wa pl ta co) sz) := by
  obtain ⟨c1, c2, c3, c4, c7⟩ := hC
  subst c1
  subst c3
  subst c4
  obtain ⟨a1, a2, a3, a4, a5, a6, a7, a8⟩ := hAI
  refine Met.ofW (cc := cX1_count) (maxL := 1) (ret := (some .int)) (by decide) rfl ?_
  intro p e s m args below meth c s₁ B hml hv
  obtain ⟨rfl, hsz, hPw, hK, hD0⟩ := hv
  subst hsz
  have hts := atoms_spec (ws := ws_ yX1_count cX1_count 1 (some .int)) B.pre
  have F : CallFix p m c cX1_count 1 s ([.ref (ad 0)] : List Value).toArray lw_all RX1 := ⟨B.exec, B.bytes, hml, findClass_of_methodNamed B.named, fun w h => hts w (List.mem_cons_of_mem _ h)⟩
  have hx := F.1
  have hb := F.2.1
  have hr := B.returns
  have hlocks := B.notSynchronized
  have hD := hD0.self (sz := s.heap.size)
  generalize hAe : va_A (mdW ad d st ot sm (nI rdy) ib wa pl ta (nI g)) s.heap.size = A at hD ⊢
  have hA : ∀ q : Nat, s.heap.size ≤ q → A q := fun q h => by rw [← hAe]; exact Or.inr h
  have hI : sp_in D A s.heap (mdW ad d st ot sm (nI rdy) ib wa pl ta (nI g)) s.heap [] := ⟨hPw, hD, va_S.rf⟩
  have hl := lv_entry ([.ref (ad 0)]) (n := 1) (Nat.le_of_ble_eq_true rfl)
  rw [lg_entry_eq]
  generalize (lg_sl ([.ref (ad 0)]) ++ List.replicate (1 - (lg_sl ([.ref (ad 0)])).length) Slot.unset).toArray = ls at hl ⊢
  have hl : lv_has ls 1 [(0, .ref (ad 0))] := hl
  refine lv_aload_n hx hb dX1_count_0 rfl (lv_at hl 0 rfl) ?_
  refine sp_get1 (v := .int (nI g)) F hK hI.1 rfl 5 (by decide) q131 rfl rfl dX1_count_1 ?_
  refine sp_ifl (tgt := 15) hx hb (by omega) dX1_count_4 (by decide) (fun d1 => ?_) (fun d1 => ?_)
  · refine lv_aload_n hx hb dX1_count_15 rfl (lv_at hl 0 rfl) ?_
    refine sp_get1 (v := .int ta) F hK hI.1 rfl 4 (by decide) q130 rfl rfl dX1_count_16 ?_
    exact W.iret hx hb hr (fun t ht hW => ⟨⟨_, (), rfl, by rw [sg_count, if_neg (by omega)], by rw [ht]; exact hI.1, va_K.moved hW.alike hK, hI.2.1⟩, hI.2.2.F ht⟩) hI.2.2.2.2 dX1_count_19
  · refine lv_aload_n hx hb dX1_count_7 rfl (lv_at hl 0 rfl) ?_
    refine sp_get1 (v := .int (nI g)) F hK hI.1 rfl 5 (by decide) q131 rfl rfl dX1_count_8 ?_
    refine lv_ineg hx hb dX1_count_11 ?_
    refine lv_goto (tgt := 19) hx hb dX1_count_12 (by decide) ?_
    exact W.iret hx hb hr (fun t ht hW => ⟨⟨_, (), rfl, by rw [sg_count, if_pos (by omega)], by rw [ht]; exact hI.1, va_K.moved hW.alike hK, hI.2.1⟩, hI.2.2.F ht⟩) hI.2.2.2.2 dX1_count_19
end
section
/-! the two constructors; printed by gen/m_ctor.py -/
set_option maxHeartbeats 4000000 in
set_option maxRecDepth 100000 in
/-- a new object and its arrays -/
theorem met_new (l : Launch) (D : va_G) (h0 sz : Nat) : Met l yX0_init (ws_ yX0_init cX0_init 1 none) { frames := 1, cells := 7, slots := 173, locals := 12 } (va_Pc [.ref h0] (sp_pre D [] sz [(h0, .inr (0, [.null, .null, .null, .null, .null, .null, .null, .int 0, .int 0, .int 0, .int 0, .int 0, .int 0, .int 0, .int 0]))])) (va_Qv (fun _ : Unit => True) (fun _ t => ∃ (ad : Nat → Nat) (d : ClassId), ad 0 = h0 ∧ va_P D vwCl (spW ad d (fun _ => 0) (fun _ => 0) (fun _ => 0) (fun _ => 0) (fun _ => 0) (fun _ => 0) (fun _ => 0) 0 0 0 0 0 0 0 0) t.heap ∧ va_K D vwCl [(d, .int)] t ∧ va_D (va_A [(h0, .inr (0, [.null, .null, .null, .null, .null, .null, .null, .int 0, .int 0, .int 0, .int 0, .int 0, .int 0, .int 0, .int 0]))] sz) (spW ad d (fun _ => 0) (fun _ => 0) (fun _ => 0) (fun _ => 0) (fun _ => 0) (fun _ => 0) (fun _ => 0) 0 0 0 0 0 0 0 0)) (va_A [(h0, .inr (0, [.null, .null, .null, .null, .null, .null, .null, .int 0, .int 0, .int 0, .int 0, .int 0, .int 0, .int 0, .int 0]))] sz)) 7 173 (va_A [(h0, .inr (0, [.null, .null, .null, .null, .null, .null, .null, .int 0, .int 0, .int 0, .int 0, .int 0, .int 0, .int 0, .int 0]))] sz) := by
  refine Met.ofW (cc := cX0_init) (maxL := 1) (ret := none) (by decide) rfl ?_
  intro p e s m args below meth c s₁ B hml hv
  obtain ⟨rfl, hsz, hP, hK, hD0⟩ := hv
  subst hsz
  have hts := atoms_spec (ws := ws_ yX0_init cX0_init 1 none) B.pre
  have hts : ∀ w ∈ lw_all, w.before _ s = true := fun w h => hts w (List.mem_cons_of_mem _ h)
  have hx := B.exec
  have hb := B.bytes
  have hr := B.returns
  have hlocks := B.notSynchronized
  have hown : s.vm.findClass RX0 = some m.cls := findClass_of_methodNamed B.named
  have hin : meth.name = "<init>" := (name_of_methodNamed B.named B.method).1
  have hD := hD0.self (sz := s.heap.size)
  generalize hAe : va_A [(h0, .inr (0, [.null, .null, .null, .null, .null, .null, .null, .int 0, .int 0, .int 0, .int 0, .int 0, .int 0, .int 0, .int 0]))] s.heap.size = A at hD ⊢
  have hA : ∀ q : Nat, s.heap.size ≤ q → A q := fun q h => by rw [← hAe]; exact Or.inr h
  have hS : va_S A s.heap s.heap [] := va_S.rf
  have hl := lv_entry ([.ref h0]) (n := 1) (Nat.le_of_ble_eq_true rfl)
  rw [lg_entry_eq]
  generalize (lg_sl ([.ref h0]) ++ List.replicate (1 - (lg_sl ([.ref h0])).length) Slot.unset).toArray = ls at hl ⊢
  have hl : lv_has ls 1 [(0, .ref h0)] := hl
  refine lv_aload_n hx hb dX0_init_0 rfl (lv_at hl 0 rfl) ?_
  refine W.objInit hx hb hown (hts _ q19) (hts _ q20) (hts _ q21) rfl (by rw [hml]; exact hl.1) rfl dX0_init_1 (Nat.le_of_ble_eq_true rfl) (Nat.le_of_ble_eq_true rfl) ?_
  refine W.eq (g2 := F0 m 4 ls []) rfl ?_
  refine lv_aload_n hx hb dX0_init_4 rfl (lv_at hl 0 rfl) ?_
  refine lv_bipush (v := nI 25) hx hb dX0_init_5 kb_25 ?_
  refine va_newa (atype := .int) (a0 := (25, .inl (fun _ => 0))) hx hb (hts _ q68) rfl hK hP hD hS hA (fun _ => rfl) (by decide) (by decide) (by decide) (Nat.le_of_ble_eq_true rfl) (Nat.le_of_ble_eq_true rfl) dX0_init_7 (fun q1 d H hK hP hD hS => ?_)
  have hK : va_K D vwCl [(d, .int)] s := hK
  have hP : va_P D vwCl [(h0, .inr (0, [.null, .null, .null, .null, .null, .null, .null, .int 0, .int 0, .int 0, .int 0, .int 0, .int 0, .int 0, .int 0])), (q1, .inl (d, 25, .inl (fun _ => 0)))] H := hP
  have hD : va_D A [(h0, .inr (0, [.null, .null, .null, .null, .null, .null, .null, .int 0, .int 0, .int 0, .int 0, .int 0, .int 0, .int 0, .int 0])), (q1, .inl (d, 25, .inl (fun _ => 0)))] := hD
  refine W.widen (k := 1) (n := 25) (by decide) (by decide) ?_
  refine va_putF (D := D) (ci := 0) (v := .ref q1) (ty := .array .int) (C := RX0) (T := TX0) (N := 15) hx hb hts in_X0 tyX0 tyX0_ok nmX0 hown hK hP hD hS 0 rfl rfl 0 (by decide) (hts _ q22) (fun _ h9 => h9) rfl hin rfl (by decide +kernel) rfl rfl (Nat.le_of_ble_eq_true rfl) dX0_init_9 (fun H locs hP hD hS => ?_)
  have hP : va_P D vwCl [(h0, .inr (0, [.ref q1, .null, .null, .null, .null, .null, .null, .int 0, .int 0, .int 0, .int 0, .int 0, .int 0, .int 0, .int 0])), (q1, .inl (d, 25, .inl (fun _ => 0)))] H := hP
  have hD : va_D A [(h0, .inr (0, [.ref q1, .null, .null, .null, .null, .null, .null, .int 0, .int 0, .int 0, .int 0, .int 0, .int 0, .int 0, .int 0])), (q1, .inl (d, 25, .inl (fun _ => 0)))] := hD
  refine lv_aload_n hx hb dX0_init_12 rfl (lv_at hl 0 rfl) ?_
  refine lv_bipush (v := nI 25) hx hb dX0_init_13 kb_25 ?_
  refine va_newa (atype := .int) (a0 := (25, .inl (fun _ => 0))) hx hb (hts _ q68) rfl hK hP hD hS hA (fun _ => rfl) (by decide) (by decide) (by decide) (Nat.le_of_ble_eq_true rfl) (Nat.le_of_ble_eq_true rfl) dX0_init_15 (fun q2 d2 H hK hP hD hS => ?_)
  have hK : va_K D vwCl [(d, .int), (d2, .int)] s := hK
  have e1 : s.vm.findClass ("[" ++ (FieldType.int).toString) = some d := (hK.2 0 _ rfl).2
  have e2 : s.vm.findClass ("[" ++ (FieldType.int).toString) = some d2 := (hK.2 1 _ rfl).2
  obtain rfl : d = d2 := Option.some.inj (e1.symm.trans e2)
  have hK : va_K D vwCl [(d, .int)] s := hK.sub [0] rfl
  have hP : va_P D vwCl [(h0, .inr (0, [.ref q1, .null, .null, .null, .null, .null, .null, .int 0, .int 0, .int 0, .int 0, .int 0, .int 0, .int 0, .int 0])), (q1, .inl (d, 25, .inl (fun _ => 0))), (q2, .inl (d, 25, .inl (fun _ => 0)))] H := hP
  have hD : va_D A [(h0, .inr (0, [.ref q1, .null, .null, .null, .null, .null, .null, .int 0, .int 0, .int 0, .int 0, .int 0, .int 0, .int 0, .int 0])), (q1, .inl (d, 25, .inl (fun _ => 0))), (q2, .inl (d, 25, .inl (fun _ => 0)))] := hD
  refine W.widen (k := 2) (n := 50) (by decide) (by decide) ?_
  refine va_putF (D := D) (ci := 0) (v := .ref q2) (ty := .array .int) (C := RX0) (T := TX0) (N := 15) hx hb hts in_X0 tyX0 tyX0_ok nmX0 hown hK hP hD hS 0 rfl rfl 1 (by decide) (hts _ q23) (fun _ h9 => h9) rfl hin rfl (by decide +kernel) rfl rfl (Nat.le_of_ble_eq_true rfl) dX0_init_17 (fun H locs hP hD hS => ?_)
  have hP : va_P D vwCl [(h0, .inr (0, [.ref q1, .ref q2, .null, .null, .null, .null, .null, .int 0, .int 0, .int 0, .int 0, .int 0, .int 0, .int 0, .int 0])), (q1, .inl (d, 25, .inl (fun _ => 0))), (q2, .inl (d, 25, .inl (fun _ => 0)))] H := hP
  have hD : va_D A [(h0, .inr (0, [.ref q1, .ref q2, .null, .null, .null, .null, .null, .int 0, .int 0, .int 0, .int 0, .int 0, .int 0, .int 0, .int 0])), (q1, .inl (d, 25, .inl (fun _ => 0))), (q2, .inl (d, 25, .inl (fun _ => 0)))] := hD
  refine lv_aload_n hx hb dX0_init_20 rfl (lv_at hl 0 rfl) ?_
  refine lv_bipush (v := nI 24) hx hb dX0_init_21 kb_24 ?_
  refine va_newa (atype := .int) (a0 := (24, .inl (fun _ => 0))) hx hb (hts _ q68) rfl hK hP hD hS hA (fun _ => rfl) (by decide) (by decide) (by decide) (Nat.le_of_ble_eq_true rfl) (Nat.le_of_ble_eq_true rfl) dX0_init_23 (fun q3 d3 H hK hP hD hS => ?_)
  have hK : va_K D vwCl [(d, .int), (d3, .int)] s := hK
  have e1 : s.vm.findClass ("[" ++ (FieldType.int).toString) = some d := (hK.2 0 _ rfl).2
  have e2 : s.vm.findClass ("[" ++ (FieldType.int).toString) = some d3 := (hK.2 1 _ rfl).2
  obtain rfl : d = d3 := Option.some.inj (e1.symm.trans e2)
  have hK : va_K D vwCl [(d, .int)] s := hK.sub [0] rfl
  have hP : va_P D vwCl [(h0, .inr (0, [.ref q1, .ref q2, .null, .null, .null, .null, .null, .int 0, .int 0, .int 0, .int 0, .int 0, .int 0, .int 0, .int 0])), (q1, .inl (d, 25, .inl (fun _ => 0))), (q2, .inl (d, 25, .inl (fun _ => 0))), (q3, .inl (d, 24, .inl (fun _ => 0)))] H := hP
  have hD : va_D A [(h0, .inr (0, [.ref q1, .ref q2, .null, .null, .null, .null, .null, .int 0, .int 0, .int 0, .int 0, .int 0, .int 0, .int 0, .int 0])), (q1, .inl (d, 25, .inl (fun _ => 0))), (q2, .inl (d, 25, .inl (fun _ => 0))), (q3, .inl (d, 24, .inl (fun _ => 0)))] := hD
  refine W.widen (k := 3) (n := 74) (by decide) (by decide) ?_
  refine va_putF (D := D) (ci := 0) (v := .ref q3) (ty := .array .int) (C := RX0) (T := TX0) (N := 15) hx hb hts in_X0 tyX0 tyX0_ok nmX0 hown hK hP hD hS 0 rfl rfl 2 (by decide) (hts _ q24) (fun _ h9 => h9) rfl hin rfl (by decide +kernel) rfl rfl (Nat.le_of_ble_eq_true rfl) dX0_init_25 (fun H locs hP hD hS => ?_)
  have hP : va_P D vwCl [(h0, .inr (0, [.ref q1, .ref q2, .ref q3, .null, .null, .null, .null, .int 0, .int 0, .int 0, .int 0, .int 0, .int 0, .int 0, .int 0])), (q1, .inl (d, 25, .inl (fun _ => 0))), (q2, .inl (d, 25, .inl (fun _ => 0))), (q3, .inl (d, 24, .inl (fun _ => 0)))] H := hP
  have hD : va_D A [(h0, .inr (0, [.ref q1, .ref q2, .ref q3, .null, .null, .null, .null, .int 0, .int 0, .int 0, .int 0, .int 0, .int 0, .int 0, .int 0])), (q1, .inl (d, 25, .inl (fun _ => 0))), (q2, .inl (d, 25, .inl (fun _ => 0))), (q3, .inl (d, 24, .inl (fun _ => 0)))] := hD
  refine lv_aload_n hx hb dX0_init_28 rfl (lv_at hl 0 rfl) ?_
  refine lv_bipush (v := nI 24) hx hb dX0_init_29 kb_24 ?_
  refine va_newa (atype := .int) (a0 := (24, .inl (fun _ => 0))) hx hb (hts _ q68) rfl hK hP hD hS hA (fun _ => rfl) (by decide) (by decide) (by decide) (Nat.le_of_ble_eq_true rfl) (Nat.le_of_ble_eq_true rfl) dX0_init_31 (fun q4 d4 H hK hP hD hS => ?_)
  have hK : va_K D vwCl [(d, .int), (d4, .int)] s := hK
  have e1 : s.vm.findClass ("[" ++ (FieldType.int).toString) = some d := (hK.2 0 _ rfl).2
  have e2 : s.vm.findClass ("[" ++ (FieldType.int).toString) = some d4 := (hK.2 1 _ rfl).2
  obtain rfl : d = d4 := Option.some.inj (e1.symm.trans e2)
  have hK : va_K D vwCl [(d, .int)] s := hK.sub [0] rfl
  have hP : va_P D vwCl [(h0, .inr (0, [.ref q1, .ref q2, .ref q3, .null, .null, .null, .null, .int 0, .int 0, .int 0, .int 0, .int 0, .int 0, .int 0, .int 0])), (q1, .inl (d, 25, .inl (fun _ => 0))), (q2, .inl (d, 25, .inl (fun _ => 0))), (q3, .inl (d, 24, .inl (fun _ => 0))), (q4, .inl (d, 24, .inl (fun _ => 0)))] H := hP
  have hD : va_D A [(h0, .inr (0, [.ref q1, .ref q2, .ref q3, .null, .null, .null, .null, .int 0, .int 0, .int 0, .int 0, .int 0, .int 0, .int 0, .int 0])), (q1, .inl (d, 25, .inl (fun _ => 0))), (q2, .inl (d, 25, .inl (fun _ => 0))), (q3, .inl (d, 24, .inl (fun _ => 0))), (q4, .inl (d, 24, .inl (fun _ => 0)))] := hD
  refine W.widen (k := 4) (n := 98) (by decide) (by decide) ?_
  refine va_putF (D := D) (ci := 0) (v := .ref q4) (ty := .array .int) (C := RX0) (T := TX0) (N := 15) hx hb hts in_X0 tyX0 tyX0_ok nmX0 hown hK hP hD hS 0 rfl rfl 3 (by decide) (hts _ q25) (fun _ h9 => h9) rfl hin rfl (by decide +kernel) rfl rfl (Nat.le_of_ble_eq_true rfl) dX0_init_33 (fun H locs hP hD hS => ?_)
  have hP : va_P D vwCl [(h0, .inr (0, [.ref q1, .ref q2, .ref q3, .ref q4, .null, .null, .null, .int 0, .int 0, .int 0, .int 0, .int 0, .int 0, .int 0, .int 0])), (q1, .inl (d, 25, .inl (fun _ => 0))), (q2, .inl (d, 25, .inl (fun _ => 0))), (q3, .inl (d, 24, .inl (fun _ => 0))), (q4, .inl (d, 24, .inl (fun _ => 0)))] H := hP
  have hD : va_D A [(h0, .inr (0, [.ref q1, .ref q2, .ref q3, .ref q4, .null, .null, .null, .int 0, .int 0, .int 0, .int 0, .int 0, .int 0, .int 0, .int 0])), (q1, .inl (d, 25, .inl (fun _ => 0))), (q2, .inl (d, 25, .inl (fun _ => 0))), (q3, .inl (d, 24, .inl (fun _ => 0))), (q4, .inl (d, 24, .inl (fun _ => 0)))] := hD
  refine lv_aload_n hx hb dX0_init_36 rfl (lv_at hl 0 rfl) ?_
  refine lv_bipush (v := nI 25) hx hb dX0_init_37 kb_25 ?_
  refine va_newa (atype := .int) (a0 := (25, .inl (fun _ => 0))) hx hb (hts _ q68) rfl hK hP hD hS hA (fun _ => rfl) (by decide) (by decide) (by decide) (Nat.le_of_ble_eq_true rfl) (Nat.le_of_ble_eq_true rfl) dX0_init_39 (fun q5 d5 H hK hP hD hS => ?_)
  have hK : va_K D vwCl [(d, .int), (d5, .int)] s := hK
  have e1 : s.vm.findClass ("[" ++ (FieldType.int).toString) = some d := (hK.2 0 _ rfl).2
  have e2 : s.vm.findClass ("[" ++ (FieldType.int).toString) = some d5 := (hK.2 1 _ rfl).2
  obtain rfl : d = d5 := Option.some.inj (e1.symm.trans e2)
  have hK : va_K D vwCl [(d, .int)] s := hK.sub [0] rfl
  have hP : va_P D vwCl [(h0, .inr (0, [.ref q1, .ref q2, .ref q3, .ref q4, .null, .null, .null, .int 0, .int 0, .int 0, .int 0, .int 0, .int 0, .int 0, .int 0])), (q1, .inl (d, 25, .inl (fun _ => 0))), (q2, .inl (d, 25, .inl (fun _ => 0))), (q3, .inl (d, 24, .inl (fun _ => 0))), (q4, .inl (d, 24, .inl (fun _ => 0))), (q5, .inl (d, 25, .inl (fun _ => 0)))] H := hP
  have hD : va_D A [(h0, .inr (0, [.ref q1, .ref q2, .ref q3, .ref q4, .null, .null, .null, .int 0, .int 0, .int 0, .int 0, .int 0, .int 0, .int 0, .int 0])), (q1, .inl (d, 25, .inl (fun _ => 0))), (q2, .inl (d, 25, .inl (fun _ => 0))), (q3, .inl (d, 24, .inl (fun _ => 0))), (q4, .inl (d, 24, .inl (fun _ => 0))), (q5, .inl (d, 25, .inl (fun _ => 0)))] := hD
  refine W.widen (k := 5) (n := 123) (by decide) (by decide) ?_
  refine va_putF (D := D) (ci := 0) (v := .ref q5) (ty := .array .int) (C := RX0) (T := TX0) (N := 15) hx hb hts in_X0 tyX0 tyX0_ok nmX0 hown hK hP hD hS 0 rfl rfl 4 (by decide) (hts _ q26) (fun _ h9 => h9) rfl hin rfl (by decide +kernel) rfl rfl (Nat.le_of_ble_eq_true rfl) dX0_init_41 (fun H locs hP hD hS => ?_)
  have hP : va_P D vwCl [(h0, .inr (0, [.ref q1, .ref q2, .ref q3, .ref q4, .ref q5, .null, .null, .int 0, .int 0, .int 0, .int 0, .int 0, .int 0, .int 0, .int 0])), (q1, .inl (d, 25, .inl (fun _ => 0))), (q2, .inl (d, 25, .inl (fun _ => 0))), (q3, .inl (d, 24, .inl (fun _ => 0))), (q4, .inl (d, 24, .inl (fun _ => 0))), (q5, .inl (d, 25, .inl (fun _ => 0)))] H := hP
  have hD : va_D A [(h0, .inr (0, [.ref q1, .ref q2, .ref q3, .ref q4, .ref q5, .null, .null, .int 0, .int 0, .int 0, .int 0, .int 0, .int 0, .int 0, .int 0])), (q1, .inl (d, 25, .inl (fun _ => 0))), (q2, .inl (d, 25, .inl (fun _ => 0))), (q3, .inl (d, 24, .inl (fun _ => 0))), (q4, .inl (d, 24, .inl (fun _ => 0))), (q5, .inl (d, 25, .inl (fun _ => 0)))] := hD
  refine lv_aload_n hx hb dX0_init_44 rfl (lv_at hl 0 rfl) ?_
  refine lv_bipush (v := nI 25) hx hb dX0_init_45 kb_25 ?_
  refine va_newa (atype := .int) (a0 := (25, .inl (fun _ => 0))) hx hb (hts _ q68) rfl hK hP hD hS hA (fun _ => rfl) (by decide) (by decide) (by decide) (Nat.le_of_ble_eq_true rfl) (Nat.le_of_ble_eq_true rfl) dX0_init_47 (fun q6 d6 H hK hP hD hS => ?_)
  have hK : va_K D vwCl [(d, .int), (d6, .int)] s := hK
  have e1 : s.vm.findClass ("[" ++ (FieldType.int).toString) = some d := (hK.2 0 _ rfl).2
  have e2 : s.vm.findClass ("[" ++ (FieldType.int).toString) = some d6 := (hK.2 1 _ rfl).2
  obtain rfl : d = d6 := Option.some.inj (e1.symm.trans e2)
  have hK : va_K D vwCl [(d, .int)] s := hK.sub [0] rfl
  have hP : va_P D vwCl [(h0, .inr (0, [.ref q1, .ref q2, .ref q3, .ref q4, .ref q5, .null, .null, .int 0, .int 0, .int 0, .int 0, .int 0, .int 0, .int 0, .int 0])), (q1, .inl (d, 25, .inl (fun _ => 0))), (q2, .inl (d, 25, .inl (fun _ => 0))), (q3, .inl (d, 24, .inl (fun _ => 0))), (q4, .inl (d, 24, .inl (fun _ => 0))), (q5, .inl (d, 25, .inl (fun _ => 0))), (q6, .inl (d, 25, .inl (fun _ => 0)))] H := hP
  have hD : va_D A [(h0, .inr (0, [.ref q1, .ref q2, .ref q3, .ref q4, .ref q5, .null, .null, .int 0, .int 0, .int 0, .int 0, .int 0, .int 0, .int 0, .int 0])), (q1, .inl (d, 25, .inl (fun _ => 0))), (q2, .inl (d, 25, .inl (fun _ => 0))), (q3, .inl (d, 24, .inl (fun _ => 0))), (q4, .inl (d, 24, .inl (fun _ => 0))), (q5, .inl (d, 25, .inl (fun _ => 0))), (q6, .inl (d, 25, .inl (fun _ => 0)))] := hD
  refine W.widen (k := 6) (n := 148) (by decide) (by decide) ?_
  refine va_putF (D := D) (ci := 0) (v := .ref q6) (ty := .array .int) (C := RX0) (T := TX0) (N := 15) hx hb hts in_X0 tyX0 tyX0_ok nmX0 hown hK hP hD hS 0 rfl rfl 5 (by decide) (hts _ q27) (fun _ h9 => h9) rfl hin rfl (by decide +kernel) rfl rfl (Nat.le_of_ble_eq_true rfl) dX0_init_49 (fun H locs hP hD hS => ?_)
  have hP : va_P D vwCl [(h0, .inr (0, [.ref q1, .ref q2, .ref q3, .ref q4, .ref q5, .ref q6, .null, .int 0, .int 0, .int 0, .int 0, .int 0, .int 0, .int 0, .int 0])), (q1, .inl (d, 25, .inl (fun _ => 0))), (q2, .inl (d, 25, .inl (fun _ => 0))), (q3, .inl (d, 24, .inl (fun _ => 0))), (q4, .inl (d, 24, .inl (fun _ => 0))), (q5, .inl (d, 25, .inl (fun _ => 0))), (q6, .inl (d, 25, .inl (fun _ => 0)))] H := hP
  have hD : va_D A [(h0, .inr (0, [.ref q1, .ref q2, .ref q3, .ref q4, .ref q5, .ref q6, .null, .int 0, .int 0, .int 0, .int 0, .int 0, .int 0, .int 0, .int 0])), (q1, .inl (d, 25, .inl (fun _ => 0))), (q2, .inl (d, 25, .inl (fun _ => 0))), (q3, .inl (d, 24, .inl (fun _ => 0))), (q4, .inl (d, 24, .inl (fun _ => 0))), (q5, .inl (d, 25, .inl (fun _ => 0))), (q6, .inl (d, 25, .inl (fun _ => 0)))] := hD
  refine lv_aload_n hx hb dX0_init_52 rfl (lv_at hl 0 rfl) ?_
  refine lv_bipush (v := nI 25) hx hb dX0_init_53 kb_25 ?_
  refine va_newa (atype := .int) (a0 := (25, .inl (fun _ => 0))) hx hb (hts _ q68) rfl hK hP hD hS hA (fun _ => rfl) (by decide) (by decide) (by decide) (Nat.le_of_ble_eq_true rfl) (Nat.le_of_ble_eq_true rfl) dX0_init_55 (fun q7 d7 H hK hP hD hS => ?_)
  have hK : va_K D vwCl [(d, .int), (d7, .int)] s := hK
  have e1 : s.vm.findClass ("[" ++ (FieldType.int).toString) = some d := (hK.2 0 _ rfl).2
  have e2 : s.vm.findClass ("[" ++ (FieldType.int).toString) = some d7 := (hK.2 1 _ rfl).2
  obtain rfl : d = d7 := Option.some.inj (e1.symm.trans e2)
  have hK : va_K D vwCl [(d, .int)] s := hK.sub [0] rfl
  have hP : va_P D vwCl [(h0, .inr (0, [.ref q1, .ref q2, .ref q3, .ref q4, .ref q5, .ref q6, .null, .int 0, .int 0, .int 0, .int 0, .int 0, .int 0, .int 0, .int 0])), (q1, .inl (d, 25, .inl (fun _ => 0))), (q2, .inl (d, 25, .inl (fun _ => 0))), (q3, .inl (d, 24, .inl (fun _ => 0))), (q4, .inl (d, 24, .inl (fun _ => 0))), (q5, .inl (d, 25, .inl (fun _ => 0))), (q6, .inl (d, 25, .inl (fun _ => 0))), (q7, .inl (d, 25, .inl (fun _ => 0)))] H := hP
  have hD : va_D A [(h0, .inr (0, [.ref q1, .ref q2, .ref q3, .ref q4, .ref q5, .ref q6, .null, .int 0, .int 0, .int 0, .int 0, .int 0, .int 0, .int 0, .int 0])), (q1, .inl (d, 25, .inl (fun _ => 0))), (q2, .inl (d, 25, .inl (fun _ => 0))), (q3, .inl (d, 24, .inl (fun _ => 0))), (q4, .inl (d, 24, .inl (fun _ => 0))), (q5, .inl (d, 25, .inl (fun _ => 0))), (q6, .inl (d, 25, .inl (fun _ => 0))), (q7, .inl (d, 25, .inl (fun _ => 0)))] := hD
  refine W.widen (k := 7) (n := 173) (by decide) (by decide) ?_
  refine va_putF (D := D) (ci := 0) (v := .ref q7) (ty := .array .int) (C := RX0) (T := TX0) (N := 15) hx hb hts in_X0 tyX0 tyX0_ok nmX0 hown hK hP hD hS 0 rfl rfl 6 (by decide) (hts _ q28) (fun _ h9 => h9) rfl hin rfl (by decide +kernel) rfl rfl (Nat.le_of_ble_eq_true rfl) dX0_init_57 (fun H locs hP hD hS => ?_)
  have hP : va_P D vwCl [(h0, .inr (0, [.ref q1, .ref q2, .ref q3, .ref q4, .ref q5, .ref q6, .ref q7, .int 0, .int 0, .int 0, .int 0, .int 0, .int 0, .int 0, .int 0])), (q1, .inl (d, 25, .inl (fun _ => 0))), (q2, .inl (d, 25, .inl (fun _ => 0))), (q3, .inl (d, 24, .inl (fun _ => 0))), (q4, .inl (d, 24, .inl (fun _ => 0))), (q5, .inl (d, 25, .inl (fun _ => 0))), (q6, .inl (d, 25, .inl (fun _ => 0))), (q7, .inl (d, 25, .inl (fun _ => 0)))] H := hP
  have hD : va_D A [(h0, .inr (0, [.ref q1, .ref q2, .ref q3, .ref q4, .ref q5, .ref q6, .ref q7, .int 0, .int 0, .int 0, .int 0, .int 0, .int 0, .int 0, .int 0])), (q1, .inl (d, 25, .inl (fun _ => 0))), (q2, .inl (d, 25, .inl (fun _ => 0))), (q3, .inl (d, 24, .inl (fun _ => 0))), (q4, .inl (d, 24, .inl (fun _ => 0))), (q5, .inl (d, 25, .inl (fun _ => 0))), (q6, .inl (d, 25, .inl (fun _ => 0))), (q7, .inl (d, 25, .inl (fun _ => 0)))] := hD
  exact W.vret hx hb hr (fun t ht hW => ⟨⟨(), rfl, trivial, fun k => ([h0, q1, q2, q3, q4, q5, q6, q7] : List Nat).getD k 0, d, rfl, by rw [ht]; exact hP, va_K.moved hW.alike hK, hD⟩, hS.F ht⟩) hS.2.2 dX0_init_60
set_option maxHeartbeats 4000000 in
set_option maxRecDepth 100000 in
/-- a new object and its arrays -/
theorem met1_new (l : Launch) (D : va_G) (h0 sz : Nat) : Met l yX1_init (ws_ yX1_init cX1_init 1 none) { frames := 1, cells := 3, slots := 55, locals := 12 } (va_Pc [.ref h0] (sp_pre D [] sz [(h0, .inr (1, [.int 0, .int 0, .int 0, .int 0, .int 0, .int 0, .null, .null, .null]))])) (va_Qv (fun _ : Unit => True) (fun _ t => ∃ (ad : Nat → Nat) (d : ClassId), ad 0 = h0 ∧ va_P D vwCl (mdW ad d (fun _ => 0) (fun _ => 0) (fun _ => 0) 0 0 0 0 0 0) t.heap ∧ va_K D vwCl [(d, .long)] t ∧ va_D (va_A [(h0, .inr (1, [.int 0, .int 0, .int 0, .int 0, .int 0, .int 0, .null, .null, .null]))] sz) (mdW ad d (fun _ => 0) (fun _ => 0) (fun _ => 0) 0 0 0 0 0 0)) (va_A [(h0, .inr (1, [.int 0, .int 0, .int 0, .int 0, .int 0, .int 0, .null, .null, .null]))] sz)) 3 55 (va_A [(h0, .inr (1, [.int 0, .int 0, .int 0, .int 0, .int 0, .int 0, .null, .null, .null]))] sz) := by
  refine Met.ofW (cc := cX1_init) (maxL := 1) (ret := none) (by decide) rfl ?_
  intro p e s m args below meth c s₁ B hml hv
  obtain ⟨rfl, hsz, hP, hK, hD0⟩ := hv
  subst hsz
  have hts := atoms_spec (ws := ws_ yX1_init cX1_init 1 none) B.pre
  have hts : ∀ w ∈ lw_all, w.before _ s = true := fun w h => hts w (List.mem_cons_of_mem _ h)
  have hx := B.exec
  have hb := B.bytes
  have hr := B.returns
  have hlocks := B.notSynchronized
  have hown : s.vm.findClass RX1 = some m.cls := findClass_of_methodNamed B.named
  have hin : meth.name = "<init>" := (name_of_methodNamed B.named B.method).1
  have hD := hD0.self (sz := s.heap.size)
  generalize hAe : va_A [(h0, .inr (1, [.int 0, .int 0, .int 0, .int 0, .int 0, .int 0, .null, .null, .null]))] s.heap.size = A at hD ⊢
  have hA : ∀ q : Nat, s.heap.size ≤ q → A q := fun q h => by rw [← hAe]; exact Or.inr h
  have hS : va_S A s.heap s.heap [] := va_S.rf
  have hl := lv_entry ([.ref h0]) (n := 1) (Nat.le_of_ble_eq_true rfl)
  rw [lg_entry_eq]
  generalize (lg_sl ([.ref h0]) ++ List.replicate (1 - (lg_sl ([.ref h0])).length) Slot.unset).toArray = ls at hl ⊢
  have hl : lv_has ls 1 [(0, .ref h0)] := hl
  refine lv_aload_n hx hb dX1_init_0 rfl (lv_at hl 0 rfl) ?_
  refine W.objInit hx hb hown (hts _ q125) (hts _ q20) (hts _ q21) rfl (by rw [hml]; exact hl.1) rfl dX1_init_1 (Nat.le_of_ble_eq_true rfl) (Nat.le_of_ble_eq_true rfl) ?_
  refine W.eq (g2 := F0 m 4 ls []) rfl ?_
  refine lv_aload_n hx hb dX1_init_4 rfl (lv_at hl 0 rfl) ?_
  refine lv_bipush (v := nI 25) hx hb dX1_init_5 kb_25 ?_
  refine va_newa (atype := .long) (a0 := (25, .inr (.inl (fun _ => 0)))) hx hb (hts _ q154) rfl hK hP hD hS hA (fun _ => rfl) (by decide) (by decide) (by decide) (Nat.le_of_ble_eq_true rfl) (Nat.le_of_ble_eq_true rfl) dX1_init_7 (fun q1 d H hK hP hD hS => ?_)
  have hK : va_K D vwCl [(d, .long)] s := hK
  have hP : va_P D vwCl [(h0, .inr (1, [.int 0, .int 0, .int 0, .int 0, .int 0, .int 0, .null, .null, .null])), (q1, .inl (d, 25, .inr (.inl (fun _ => 0))))] H := hP
  have hD : va_D A [(h0, .inr (1, [.int 0, .int 0, .int 0, .int 0, .int 0, .int 0, .null, .null, .null])), (q1, .inl (d, 25, .inr (.inl (fun _ => 0))))] := hD
  refine W.widen (k := 1) (n := 25) (by decide) (by decide) ?_
  refine va_putF (D := D) (ci := 1) (v := .ref q1) (ty := .array .long) (C := RX1) (T := TX1) (N := 9) hx hb hts in_X1 tyX1 tyX1_ok nmX1 hown hK hP hD hS 0 rfl rfl 6 (by decide) (hts _ q132) (fun _ h9 => h9) rfl hin rfl (by decide +kernel) rfl rfl (Nat.le_of_ble_eq_true rfl) dX1_init_9 (fun H locs hP hD hS => ?_)
  have hP : va_P D vwCl [(h0, .inr (1, [.int 0, .int 0, .int 0, .int 0, .int 0, .int 0, .ref q1, .null, .null])), (q1, .inl (d, 25, .inr (.inl (fun _ => 0))))] H := hP
  have hD : va_D A [(h0, .inr (1, [.int 0, .int 0, .int 0, .int 0, .int 0, .int 0, .ref q1, .null, .null])), (q1, .inl (d, 25, .inr (.inl (fun _ => 0))))] := hD
  refine lv_aload_n hx hb dX1_init_12 rfl (lv_at hl 0 rfl) ?_
  refine lv_bipush (v := nI 25) hx hb dX1_init_13 kb_25 ?_
  refine va_newa (atype := .long) (a0 := (25, .inr (.inl (fun _ => 0)))) hx hb (hts _ q154) rfl hK hP hD hS hA (fun _ => rfl) (by decide) (by decide) (by decide) (Nat.le_of_ble_eq_true rfl) (Nat.le_of_ble_eq_true rfl) dX1_init_15 (fun q2 d2 H hK hP hD hS => ?_)
  have hK : va_K D vwCl [(d, .long), (d2, .long)] s := hK
  have e1 : s.vm.findClass ("[" ++ (FieldType.long).toString) = some d := (hK.2 0 _ rfl).2
  have e2 : s.vm.findClass ("[" ++ (FieldType.long).toString) = some d2 := (hK.2 1 _ rfl).2
  obtain rfl : d = d2 := Option.some.inj (e1.symm.trans e2)
  have hK : va_K D vwCl [(d, .long)] s := hK.sub [0] rfl
  have hP : va_P D vwCl [(h0, .inr (1, [.int 0, .int 0, .int 0, .int 0, .int 0, .int 0, .ref q1, .null, .null])), (q1, .inl (d, 25, .inr (.inl (fun _ => 0)))), (q2, .inl (d, 25, .inr (.inl (fun _ => 0))))] H := hP
  have hD : va_D A [(h0, .inr (1, [.int 0, .int 0, .int 0, .int 0, .int 0, .int 0, .ref q1, .null, .null])), (q1, .inl (d, 25, .inr (.inl (fun _ => 0)))), (q2, .inl (d, 25, .inr (.inl (fun _ => 0))))] := hD
  refine W.widen (k := 2) (n := 50) (by decide) (by decide) ?_
  refine va_putF (D := D) (ci := 1) (v := .ref q2) (ty := .array .long) (C := RX1) (T := TX1) (N := 9) hx hb hts in_X1 tyX1 tyX1_ok nmX1 hown hK hP hD hS 0 rfl rfl 7 (by decide) (hts _ q133) (fun _ h9 => h9) rfl hin rfl (by decide +kernel) rfl rfl (Nat.le_of_ble_eq_true rfl) dX1_init_17 (fun H locs hP hD hS => ?_)
  have hP : va_P D vwCl [(h0, .inr (1, [.int 0, .int 0, .int 0, .int 0, .int 0, .int 0, .ref q1, .ref q2, .null])), (q1, .inl (d, 25, .inr (.inl (fun _ => 0)))), (q2, .inl (d, 25, .inr (.inl (fun _ => 0))))] H := hP
  have hD : va_D A [(h0, .inr (1, [.int 0, .int 0, .int 0, .int 0, .int 0, .int 0, .ref q1, .ref q2, .null])), (q1, .inl (d, 25, .inr (.inl (fun _ => 0)))), (q2, .inl (d, 25, .inr (.inl (fun _ => 0))))] := hD
  refine lv_aload_n hx hb dX1_init_20 rfl (lv_at hl 0 rfl) ?_
  refine lv_iconst (v := nI 5) hx hb dX1_init_21 kc_5 ?_
  refine va_newa (atype := .long) (a0 := (5, .inr (.inl (fun _ => 0)))) hx hb (hts _ q154) rfl hK hP hD hS hA (fun _ => rfl) (by decide) (by decide) (by decide) (Nat.le_of_ble_eq_true rfl) (Nat.le_of_ble_eq_true rfl) dX1_init_22 (fun q3 d3 H hK hP hD hS => ?_)
  have hK : va_K D vwCl [(d, .long), (d3, .long)] s := hK
  have e1 : s.vm.findClass ("[" ++ (FieldType.long).toString) = some d := (hK.2 0 _ rfl).2
  have e2 : s.vm.findClass ("[" ++ (FieldType.long).toString) = some d3 := (hK.2 1 _ rfl).2
  obtain rfl : d = d3 := Option.some.inj (e1.symm.trans e2)
  have hK : va_K D vwCl [(d, .long)] s := hK.sub [0] rfl
  have hP : va_P D vwCl [(h0, .inr (1, [.int 0, .int 0, .int 0, .int 0, .int 0, .int 0, .ref q1, .ref q2, .null])), (q1, .inl (d, 25, .inr (.inl (fun _ => 0)))), (q2, .inl (d, 25, .inr (.inl (fun _ => 0)))), (q3, .inl (d, 5, .inr (.inl (fun _ => 0))))] H := hP
  have hD : va_D A [(h0, .inr (1, [.int 0, .int 0, .int 0, .int 0, .int 0, .int 0, .ref q1, .ref q2, .null])), (q1, .inl (d, 25, .inr (.inl (fun _ => 0)))), (q2, .inl (d, 25, .inr (.inl (fun _ => 0)))), (q3, .inl (d, 5, .inr (.inl (fun _ => 0))))] := hD
  refine W.widen (k := 3) (n := 55) (by decide) (by decide) ?_
  refine va_putF (D := D) (ci := 1) (v := .ref q3) (ty := .array .long) (C := RX1) (T := TX1) (N := 9) hx hb hts in_X1 tyX1 tyX1_ok nmX1 hown hK hP hD hS 0 rfl rfl 8 (by decide) (hts _ q134) (fun _ h9 => h9) rfl hin rfl (by decide +kernel) rfl rfl (Nat.le_of_ble_eq_true rfl) dX1_init_24 (fun H locs hP hD hS => ?_)
  have hP : va_P D vwCl [(h0, .inr (1, [.int 0, .int 0, .int 0, .int 0, .int 0, .int 0, .ref q1, .ref q2, .ref q3])), (q1, .inl (d, 25, .inr (.inl (fun _ => 0)))), (q2, .inl (d, 25, .inr (.inl (fun _ => 0)))), (q3, .inl (d, 5, .inr (.inl (fun _ => 0))))] H := hP
  have hD : va_D A [(h0, .inr (1, [.int 0, .int 0, .int 0, .int 0, .int 0, .int 0, .ref q1, .ref q2, .ref q3])), (q1, .inl (d, 25, .inr (.inl (fun _ => 0)))), (q2, .inl (d, 25, .inr (.inl (fun _ => 0)))), (q3, .inl (d, 5, .inr (.inl (fun _ => 0))))] := hD
  exact W.vret hx hb hr (fun t ht hW => ⟨⟨(), rfl, trivial, fun k => ([h0, q1, q2, q3] : List Nat).getD k 0, d, rfl, by rw [ht]; exact hP, va_K.moved hW.alike hK, hD⟩, hS.F ht⟩) hS.2.2 dX1_init_27
end
section
/-! THE CLAIM OUT OF ONE WALK OF THE LAW'S BODY. Your part is whole_start (and what it stands on); all else here is the same for every law, but numbers. -/
def R_law : String := "SpongePairsLaw"
def lw_P (b : Addr) (xs : List Int32) (args : Array Value) (s : State) : Prop := args = #[.ref b] ∧ s.IntsAt b xs ∧ xs.length ≤ 192 ∧ (Jvm.Cond.and given_1 narrow_1).before args s = true
def lw_Q (_ : Array Value) (s : State) (o : Outcome) (t : State) : Prop := o = .returned (some (.int 1)) ∧ Framed s o t [] 600000 7290000
def lw_Z (below : List Frame) (a : Array Value) (s : State) : State → Prop := fun t => ∃ o, t.status = .running ∧ Ended t below o ∧ lw_Q a s o t
/-- the law's own end, with 1 on the stack, nothing written that was there before, its room as the claim has it -/
theorem lw_ret {p : Program} {l : Launch} {e : Env} {s : State} {m : MethodId} {below : List Frame} {meth : Method} {c : Code} {b : Nat} (hx : p.tables.exec = Jvm.exec) (hb : c.code = code) (hr : meth.sig.returnType = ret) (hlocks : meth.locks = false) {pc : Nat} {H : Heap} {ls : Array Slot} (hdg : decode code pc = .ok (.ireturn, 1)) : W p l e room_1 s m #[Value.ref b] below meth c H [] 600000 7290000 (lw_Z below #[Value.ref b] s) (F0 m pc ls [.int 1]) := by
  intro T hT X
  obtain ⟨fs, hret, hrun, hended, hW, hframe⟩ := X.leave (v := some (.int 1)) (hlocks := hlocks) (fun h => by rw [hr] at h; cases h)
  have hmeth' : T.vm.method? m = some meth := X.method'
  refine ⟨T.setFrames fs, ?_, .returned (some (.int 1)), hrun, hended, rfl, ⟨_, rfl⟩, hW, hframe⟩
  jvm_step X.here [X.here.top, hx, hb, hdg, hmeth', hr, ret, narrow_b1]
  (try refine ⟨rfl, ?_⟩); (try refine ⟨rfl, ?_⟩)
  first | (intro acts; rw [hret _ acts rfl rfl rfl]) | rw [hret _ _ rfl rfl rfl]
  exact Steps.refl _
/-- what holds at the law's entry: the machine, the code, the tables' words (any of lw_tbl by 'hts w (by decide +kernel)'), the script of L ints xs at the cell b, what the Statement gives of the start (any of its parts by flat_of_before) -/
def lw_At (p : Program) (s : State) (m : MethodId) (meth : Method) (c : Code) (b L : Nat) (xs : Nat → Int32) : Prop :=
  p.tables.exec = Jvm.exec ∧ c.code = code ∧ meth.sig.returnType = ret ∧ c.maxLocals = 4 ∧ s.vm.findClass R_law = some m.cls ∧ (∀ w ∈ lw_tbl, w.before #[Value.ref b] s = true) ∧ va_X b L xs s s.heap ∧ b < s.heap.size ∧ meth.locks = false ∧ (Jvm.Cond.and given_1 narrow_1).before #[Value.ref b] s = true
end
section
/-! two objects side by side; calls on one of them; the abstract invariant is kept -/
section SPL
variable {p : Program} {l : Launch} {e : Env} {R : Room} {s : State} {m : MethodId} {args : Array Value} {below : List Frame} {meth : Method} {c : Code} {H : Heap} {locs : List Loc} {Q : State → Prop} {cells slots : Nat}
variable {cc bytes : ByteArray} {pc : Nat} {ls : Array Slot} {rest st0 As : List Value} {D : va_G} {A : Nat → Prop} {a : Nat} {tys : List (ClassId × FieldType)} {ws wc wr : va_W} {H0 : Heap} {y : MethodName} {maxL nL index : Nat} {rm : Room} {own C : String} {T : u_T} {N ci : Nat} {fs : List Value}
theorem sp_gl {x y : va_W} {k : Nat} {q : Nat × va_E} (h : x[k]? = some q) : (x ++ y)[k]? = some q := by
  rw [List.getElem?_append_left (List.getElem?_eq_some_iff.mp h).1]
  exact h
theorem sp_gr {x y : va_W} {k : Nat} {q : Nat × va_E} (h : y[k]? = some q) : (x ++ y)[x.length + k]? = some q := by
  rw [List.getElem?_append_right (Nat.le_add_right _ _), Nat.add_sub_cancel_left]
  exact h
theorem sp_dx {x y : va_W} (h : va_D A (x ++ y)) : ∀ (i j : Nat) (p q : Nat × va_E), x[i]? = some p → y[j]? = some q → p.1 ≠ q.1 := by
  intro i j p q hi hj e
  have h1 := h.1 i (x.length + j) p q (sp_gl hi) (sp_gr hj) e
  have h2 := (List.getElem?_eq_some_iff.mp hi).1
  omega
theorem sp_pl {x y : va_W} (h : va_P D vwCl (x ++ y) H) : va_P D vwCl x H := fun k q hk => h k q (sp_gl hk)
theorem sp_pr {x y : va_W} (h : va_P D vwCl (x ++ y) H) : va_P D vwCl y H := fun k q hk => h (x.length + k) q (sp_gr hk)
theorem sp_dl {x y : va_W} (h : va_D A (x ++ y)) : va_D A x := ⟨fun i j p q hi hj e => h.1 i j p q (sp_gl hi) (sp_gl hj) e, fun k q hk => h.2 k q (sp_gl hk)⟩
theorem sp_dr {x y : va_W} (h : va_D A (x ++ y)) : va_D A y := ⟨fun i j p q hi hj e => by have := h.1 _ _ p q (sp_gr hi) (sp_gr hj) e; omega, fun k q hk => h.2 _ q (sp_gr hk)⟩
theorem sp_swap {x y : va_W} (h : sp_in D A H0 (x ++ y) H locs) : sp_in D A H0 (y ++ x) H locs :=
  ⟨va_P.app (sp_pr h.1) (sp_pl h.1), va_D.app (sp_dr h.2.1) (sp_dl h.2.1) (fun i j p q hi hj e => sp_dx h.2.1 j i q p hj hi e.symm), h.2.2⟩
theorem sp_hFl (hI : sp_in D A H0 (wc ++ wr) H locs) (hA : ∀ q, H0.size ≤ q → A q) : ∀ q, va_A wc H.size q → A q := by
  intro q h
  rcases h with ⟨k, e, h⟩ | h
  · exact hI.2.1.2 k (q, e) (sp_gl h)
  · exact hA q (Nat.le_trans hI.2.2.1 h)
theorem sp_joinL {w1 : va_W} {H1 : Heap} {locs1 : List Loc} (hI : sp_in D A H0 (wc ++ wr) H locs) (hk : ∀ q : Nat, q < H.size → ¬ va_A wc H.size q → H1[q]? = H[q]?) (hF : ∀ q, va_A wc H.size q → A q) (hP1 : va_P D vwCl w1 H1) (hD1 : va_D (va_A wc H.size) w1) (hS1 : va_S A H0 H1 locs1) : sp_in D A H0 (w1 ++ wr) H1 locs1 := by
  have apart : ∀ (k : Nat) (q : Nat × va_E), wr[k]? = some q → q.1 < H.size ∧ ¬ va_A wc H.size q.1 := by
    intro k q hq
    have hl := (sp_pr hI.1 k q hq).lt
    refine ⟨hl, fun h => ?_⟩
    rcases h with ⟨k2, e, h⟩ | h
    · exact sp_dx hI.2.1 k2 k (q.1, e) q h hq rfl
    · omega
  refine ⟨va_P.app hP1 (fun k q hq => ?_), va_D.app (hD1.weaken (fun k q _ h => hF q.1 h)) (sp_dr hI.2.1) (fun i j x y hx hy hxy => ?_), hS1⟩
  · obtain ⟨g1, g2⟩ := apart k q hq
    exact (sp_pr hI.1 k q hq).kept (hk q.1 g1 g2)
  · exact (apart j y hy).2 (by rw [← hxy]; exact hD1.2 i x hx)
/-- an int method of the first object -/
theorem sp_callLi {X : Type} {post : Int32 → X → Prop} {w : X → va_W} {ret : Option FieldType} (n : Nat) (F : CallFix p m c cc nL s args lw_all own) (hM : Met l y (ws_ y bytes maxL ret) rm (va_Pc (.ref a :: As) (sp_pre D tys H.size wc)) (va_Qi post (sp_end D tys (va_A wc H.size) w) (va_A wc H.size)) 0 0 (va_A wc H.size))
    (hG : GoodIn lw_all (wsV own index C y (ws_ y bytes maxL ret))) (hrc : rm.cells = 0) (hrs : rm.slots = 0)
    (hd : y.cls = C ∧ y.cls ≠ "java/lang/invoke/MethodHandle" ∧ y.cls ≠ "java/lang/invoke/VarHandle" ∧ (parseMethodDescriptor y.desc).map (fun d => d.parameters.length) = some n) (hR : rm.frames + 1 ≤ R.frames ∧ 8 + (maxL + 11) + rm.locals ≤ R.locals)
    (hK : va_K D vwCl tys s) (hI : sp_in D A H0 (wc ++ wr) H locs) (hA : ∀ q, H0.size ≤ q → A q) (hc : vwCl[ci]? = some (C, T, N)) (he : wc[0]? = some (a, .inr (ci, fs)))
    (hn : As.length = n) (hsize : ls.size = nL) (hst : st0 = As.reverse ++ .ref a :: rest) (hW : (rest.map fun v => v.category).sum ≤ 8) (hdg : decode cc pc = .ok (.invokevirtual index, 3)) (hf : cells + 0 ≤ R.cells ∧ slots + 0 ≤ R.slots)
    (kk : ∀ (r : Int32) (x : X) (H1 : Heap) (locs1 : List Loc), post r x → sp_in D A H0 (w x ++ wr) H1 locs1 → W p l e R s m args below meth c H1 locs1 cells slots Q (F0 m (pc + 3) ls (.int r :: rest))) : W p l e R s m args below meth c H locs cells slots Q (F0 m pc ls st0) := by
  have hF := sp_hFl hI hA
  refine va_calli (va_runV (As := As) (rest := rest) F hM (cwV n F.2.2.2.2 hG rfl hrc hrs hd hR) ⟨sp_blind, va_recv hK (sp_pl hI.1) hc he, fun U hU hW => ⟨rfl, by rw [hU], by rw [hU]; exact sp_pl hI.1, va_K.moved hW.alike hK, (sp_dl hI.2.1).weaken (fun _ _ _ _ => trivial)⟩⟩ rfl hn hsize hst (lv_room hW) hdg hf) hI.2.2 (fun q _ h => hF q h) hF (fun r x t H1 locs1 ht hvm hp hB hz hk hS1 => ?_)
  obtain ⟨hP1, hK1, hD1⟩ := hB
  rw [ht] at hP1
  exact kk r x H1 locs1 hp (sp_joinL hI hk hF hP1 hD1 hS1)
/-- a void method of the first object -/
theorem sp_callLv {X : Type} {post : X → Prop} {w : X → va_W} (n : Nat) (F : CallFix p m c cc nL s args lw_all own) (hM : Met l y (ws_ y bytes maxL none) rm (va_Pc (.ref a :: As) (sp_pre D tys H.size wc)) (va_Qv post (sp_end D tys (va_A wc H.size) w) (va_A wc H.size)) 0 0 (va_A wc H.size))
    (hG : GoodIn lw_all (wsV own index C y (ws_ y bytes maxL none))) (hrc : rm.cells = 0) (hrs : rm.slots = 0)
    (hd : y.cls = C ∧ y.cls ≠ "java/lang/invoke/MethodHandle" ∧ y.cls ≠ "java/lang/invoke/VarHandle" ∧ (parseMethodDescriptor y.desc).map (fun d => d.parameters.length) = some n) (hR : rm.frames + 1 ≤ R.frames ∧ 8 + (maxL + 11) + rm.locals ≤ R.locals)
    (hK : va_K D vwCl tys s) (hI : sp_in D A H0 (wc ++ wr) H locs) (hA : ∀ q, H0.size ≤ q → A q) (hc : vwCl[ci]? = some (C, T, N)) (he : wc[0]? = some (a, .inr (ci, fs)))
    (hn : As.length = n) (hsize : ls.size = nL) (hst : st0 = As.reverse ++ .ref a :: rest) (hW : (rest.map fun v => v.category).sum ≤ 8) (hdg : decode cc pc = .ok (.invokevirtual index, 3)) (hf : cells + 0 ≤ R.cells ∧ slots + 0 ≤ R.slots)
    (kk : ∀ (x : X) (H1 : Heap) (locs1 : List Loc), post x → sp_in D A H0 (w x ++ wr) H1 locs1 → W p l e R s m args below meth c H1 locs1 cells slots Q (F0 m (pc + 3) ls rest)) : W p l e R s m args below meth c H locs cells slots Q (F0 m pc ls st0) := by
  have hF := sp_hFl hI hA
  refine va_callv (va_runV (As := As) (rest := rest) F hM (cwV n F.2.2.2.2 hG rfl hrc hrs hd hR) ⟨sp_blind, va_recv hK (sp_pl hI.1) hc he, fun U hU hW => ⟨rfl, by rw [hU], by rw [hU]; exact sp_pl hI.1, va_K.moved hW.alike hK, (sp_dl hI.2.1).weaken (fun _ _ _ _ => trivial)⟩⟩ rfl hn hsize hst (lv_room hW) hdg hf) hI.2.2 (fun q _ h => hF q h) hF (fun x t H1 locs1 ht hvm hp hB hz hk hS1 => ?_)
  obtain ⟨hP1, hK1, hD1⟩ := hB
  rw [ht] at hP1
  exact kk x H1 locs1 hp (sp_joinL hI hk hF hP1 hD1 hS1)
/-- the script's int at a number -/
theorem sp_sld (hx : p.tables.exec = Jvm.exec) (hb : c.code = cc) {b L : Nat} {xs : Nat → Int32} (hX : va_X b L xs s H0) (hbl : b < H0.size) (hbA : ¬ A b) (hS : va_S A H0 H locs) (hL : L < 2 ^ 31) {i : Nat} (hi : i < L) (hdg : decode cc pc = .ok (.iaload, 1))
    (kk : W p l e R s m args below meth c H locs cells slots Q (F0 m (pc + 1) ls (.int (xs i) :: rest))) : W p l e R s m args below meth c H locs cells slots Q (F0 m pc ls (.int (nI i) :: .ref b :: rest)) := by
  refine va_sld hx hb hX hbl hbA hS (vp_in_nI hi hL) hdg ?_
  rw [nI_clamp (Nat.lt_trans hi hL)]
  exact kk
end SPL
theorem sg_lp {L i : Nat} (hL : L ≤ 192) (hi : i ≤ 192) : nI L - nI 3 < nI i ↔ L < i + 3 := by
  rw [Int32.lt_iff_toInt_lt, pk_sub_toInt (by omega) (by decide), nI_toInt (by omega)]
  omega
theorem sg_AI_mono {M N : Nat} {a : sg_A} (h : sg_AI M a) (hMN : M ≤ N) : sg_AI N a := by
  obtain ⟨rdy, q, w, P, g, tk, S⟩ := a
  obtain ⟨a1, a2, a3, a4, a5, a6, a7, a8⟩ := h
  exact ⟨a1, a2, a3, a4, a5, a6, a7, by omega⟩
theorem sg_AI_init {N : Nat} {a : sg_A} (h : sg_AI N a) : sg_AI N (sg_init a) := by
  obtain ⟨rdy, q, w, P, g, tk, S⟩ := a
  obtain ⟨a1, a2, a3, a4, a5, a6, a7, a8⟩ := h
  exact ⟨by decide, a2, a3, fun _ => rfl, a5, a6, a7, a8⟩
theorem sg_AI_begin {N : Nat} {a : sg_A} (v : Int32) (h : sg_AI N a) : sg_AI N (sg_begin a v).2 := by
  obtain ⟨rdy, q, w, P, g, tk, S⟩ := a
  by_cases hok : rdy ≠ 0 ∧ ¬ v < 0 ∧ v ≤ nI 1
  · obtain ⟨w1, hw1, rfl⟩ := nI_of2 (M := nI 1) (n := 1) (by decide) hok.2.1 hok.2.2
    rw [sg_begin, if_pos hok, nI_clamp (by omega)]
    obtain ⟨a1, a2, a3, a4, a5, a6, a7, a8⟩ := h
    have := sg_rate_in w1
    exact ⟨a1, by decide, hw1, fun _ => by have := hok.1; omega, fun z => absurd z (by decide), fun _ => ⟨rfl, by omega⟩, fun z => absurd z (by decide), Nat.zero_le _⟩
  · rw [sg_begin, if_neg hok]
    exact h
theorem sg_AI_absorb {N : Nat} {a : sg_A} (v : Int32) (h : sg_AI N a) : sg_AI N (sg_absorb a v).2 := by
  obtain ⟨rdy, q, w, P, g, tk, S⟩ := a
  by_cases hok : q = 1 ∧ ¬ v < 0 ∧ v ≤ nI 255
  · obtain ⟨rfl, -⟩ := id hok
    rw [sg_absorb, if_pos hok]
    obtain ⟨a1, a2, a3, a4, a5, a6, a7, a8⟩ := h
    have hr := sg_rate_in w
    have h6 := a6 rfl
    by_cases hP : P + 1 = sg_rate w
    · rw [if_pos hP]
      exact ⟨a1, a2, a3, a4, a5, fun _ => ⟨h6.1, by omega⟩, fun z => absurd z (by decide), a8⟩
    · rw [if_neg hP]
      exact ⟨a1, a2, a3, a4, a5, fun _ => ⟨h6.1, by omega⟩, fun z => absurd z (by decide), a8⟩
  · rw [sg_absorb, if_neg hok]
    exact h
theorem sg_AI_squeeze {N : Nat} {a : sg_A} (h : sg_AI N a) : sg_AI (N + 1) (sg_squeeze a).2 := by
  obtain ⟨rdy, q, w, P, g, tk, S⟩ := a
  obtain ⟨a1, a2, a3, a4, a5, a6, a7, a8⟩ := id h
  have hr := sg_rate_in w
  rcases (show q = 0 ∨ q = 1 ∨ q = 2 by omega) with rfl | rfl | rfl
  · exact sg_AI_mono h (Nat.le_succ N)
  · show sg_AI (N + 1) (rdy, 2, w, 1, 1, tk, sg_pad w P S)
    exact ⟨a1, by decide, a3, fun _ => a4 (by decide), fun z => absurd z (by decide), fun z => absurd z (by decide), fun _ => ⟨Nat.le_refl 1, by omega, fun _ => by decide⟩, Nat.le_add_left 1 N⟩
  · have h7 := a7 rfl
    rw [sg_squeeze, if_neg (show ¬ (2 : Nat) = 0 by decide), if_neg (show ¬ (2 : Nat) = 1 by decide)]
    by_cases hlm : w = 0 ∧ g = 32
    · rw [if_pos hlm]
      exact sg_AI_mono h (Nat.le_succ N)
    · rw [if_neg hlm]
      by_cases hP : P = sg_rate w
      · rw [if_pos hP]
        exact ⟨a1, a2, a3, a4, fun z => absurd z (by decide), fun z => absurd z (by decide), fun _ => ⟨by omega, by omega, fun z => by have := h7.2.2 z; omega⟩, by omega⟩
      · rw [if_neg hP]
        exact ⟨a1, a2, a3, a4, fun z => absurd z (by decide), fun z => absurd z (by decide), fun _ => ⟨by omega, by omega, fun z => by have := h7.2.2 z; omega⟩, by omega⟩
end
section
/-! the loop of the law; printed by gen/m_law.py -/
set_option maxHeartbeats 4000000 in
set_option maxRecDepth 100000 in
/-- the loop of the law: both objects stand for one abstract state -/
theorem law_loop {p : Program} {l : Launch} {e : Env} {s : State} {m : MethodId} {below : List Frame} {meth : Method} {c : Code} {D : va_G} {b L : Nat} {xs : Nat → Int32} {ad am : Nat → Nat} {d dm : ClassId} (hL : L ≤ 192) (C0 : lw_At p s m meth c b L xs) (hK : va_K D vwCl [(d, .int), (dm, .long)] s) :
    ∀ (n i : Nat) (a : sg_A) (lo hi rl rh rt tl th : Nat → Int32) (rd ra su po pp li gi ta : Int32) (st ot sm : Nat → Int64) (ir ib wa pl tb co : Int32) (H : Heap) (locs : List Loc) (ls : Array Slot), i ≤ L → L + 1 ≤ i + n → sg_AI i a → sg_CR a lo hi rl rh rt rd ra su po pp li gi ta → sg_MR a st ir ib wa pl tb co → sp_in D (fun q : Nat => s.heap.size ≤ q) s.heap (spW ad d lo hi rl rh rt tl th rd ra su po pp li gi ta ++ mdW am dm st ot sm ir ib wa pl tb co) H locs → lv_has ls 4 [(0, .ref b), (1, .ref (ad 0)), (2, .ref (am 0)), (3, .int (nI i))] → W p l e room_1 s m #[Value.ref b] below meth c H locs 12 252 (lw_Z below #[Value.ref b] s) (F0 m 18 ls []) := by
  obtain ⟨hx, hb, hr, hml, hown, hts0, hX, hbl, hlocks, hgv⟩ := C0
  have hts : ∀ w ∈ lw_all, w.before #[Value.ref b] s = true := fun w h => hts0 w (lw_all_tbl h)
  have F : CallFix p m c cL_law 4 s #[Value.ref b] lw_all R_law := ⟨hx, hb, hml, hown, hts⟩
  have hA : ∀ q : Nat, s.heap.size ≤ q → (fun q : Nat => s.heap.size ≤ q) q := fun _ h => h
  have hbA : ¬ (fun q : Nat => s.heap.size ≤ q) b := Nat.not_le.mpr hbl
  have hK0 : va_K D vwCl [(d, .int)] s := hK.sub [0] rfl
  have hK1 : va_K D vwCl [(dm, .long)] s := hK.sub [1] rfl
  have hf : 12 + 0 ≤ room_1.cells ∧ 252 + 0 ≤ room_1.slots := ⟨Nat.le_of_ble_eq_true rfl, Nat.le_of_ble_eq_true rfl⟩
  intro n
  induction n with
  | zero =>
    intro i a lo hi rl rh rt tl th rd ra su po pp li gi ta st ot sm ir ib wa pl tb co H locs ls h1 h2
    exact absurd h2 (by omega)
  | succ n ih =>
    intro i a lo hi rl rh rt tl th rd ra su po pp li gi ta st ot sm ir ib wa pl tb co H locs ls h1 h2 hAI hC hM hI hl
    refine lv_iload_n hx hb dL_law_18 rfl (lv_at hl 3 rfl) ?_
    refine lv_aload_n hx hb dL_law_19 rfl (lv_at hl 0 rfl) ?_
    refine va_slen hx hb hX hbl hbA hI.2.2 dL_law_20 ?_
    refine lv_iconst (v := nI 3) hx hb dL_law_21 kc_3 ?_
    refine lv_isub hx hb dL_law_22 ?_
    refine lv_icmp_gt (tgt := 194) hx hb dL_law_23 (by decide) (fun c1 => ?_) (fun c1 => ?_)
    · refine lv_iconst (v := 1) hx hb dL_law_194 (by decide) ?_
      refine va_forget (fun q hq => hI.2.2.2.2 q hq) ?_
      refine W.widen (k := 600000) (n := 7290000) (by decide) (by decide) ?_
      exact lw_ret hx hb hr hlocks dL_law_195
    · have hlt : i + 3 ≤ L := by
        rcases Nat.lt_or_ge L (i + 3) with z | z
        · exact absurd ((sg_lp hL (by omega)).mpr z) c1
        · exact z
      refine lv_aload_n hx hb dL_law_26 rfl (lv_at hl 0 rfl) ?_
      refine lv_iload_n hx hb dL_law_27 rfl (lv_at hl 3 rfl) ?_
      refine sp_sld hx hb hX hbl hbA hI.2.2 (by omega) (by omega) dL_law_28 ?_
      refine lv_bipush (v := nI 7) hx hb dL_law_29 kb_7 ?_
      refine lv_iand hx hb dL_law_31 ?_
      obtain ⟨k, hk, ek⟩ := pk_andE (xs i) (m := nI 7) 3 (by decide)
      refine sp_topi (y := nI k) ek ?_
      obtain ⟨rdy, q, w, P, g, tk, S⟩ := a
      rcases (show k = 0 ∨ k = 1 ∨ k = 2 ∨ k = 3 ∨ k = 4 ∨ k = 5 ∨ k = 6 ∨ k = 7 by omega) with rfl | rfl | rfl | rfl | rfl | rfl | rfl | rfl
      · refine lv_tableIn (tgt := 72) hx hb dL_law_32 (by decide) (by decide) rfl (by decide) ?_
        refine lv_aload_n hx hb dL_law_72 rfl (lv_at hl 1 rfl) ?_
        refine sp_callLv (ci := 0) 0 F (met_init l D ad d _ lo hi rl rh rt tl th rd ra su po pp li gi ta rdy q w P g tk S hC (by have h := hAI.1; exact h)) (lw_V q69 q70 q71 q12 q72) rfl rfl (by decide +kernel) ⟨Nat.le_of_ble_eq_true rfl, Nat.le_of_ble_eq_true rfl⟩ hK0 hI hA rfl rfl rfl hl.1 rfl (Nat.le_of_ble_eq_true rfl) dL_law_73 hf (fun x1 H locs hx1 hI => ?_)
        have hI : sp_in D (fun q : Nat => s.heap.size ≤ q) s.heap (spW ad d (x1.1 0) (x1.1 1) (x1.1 2) (x1.1 3) (x1.1 4) (x1.1 5) (x1.1 6) (x1.2 0) (x1.2 1) (x1.2 2) (x1.2 3) (x1.2 4) (x1.2 5) (x1.2 6) (x1.2 7) ++ mdW am dm st ot sm ir ib wa pl tb co) H locs := hI
        refine lv_aload_n hx hb dL_law_76 rfl (lv_at hl 2 rfl) ?_
        have hI := sp_swap hI
        refine sp_callLv (ci := 1) 0 F (met1_init l D am dm _ st ot sm ir ib wa pl tb co rdy q w P g tk S hM) (lw_V q155 q156 q157 q13 q158) rfl rfl (by decide +kernel) ⟨Nat.le_of_ble_eq_true rfl, Nat.le_of_ble_eq_true rfl⟩ hK1 hI hA rfl rfl rfl hl.1 rfl (Nat.le_of_ble_eq_true rfl) dL_law_77 hf (fun x2 H locs hx2 hI => ?_)
        have hI := sp_swap hI
        have hI : sp_in D (fun q : Nat => s.heap.size ≤ q) s.heap (spW ad d (x1.1 0) (x1.1 1) (x1.1 2) (x1.1 3) (x1.1 4) (x1.1 5) (x1.1 6) (x1.2 0) (x1.2 1) (x1.2 2) (x1.2 3) (x1.2 4) (x1.2 5) (x1.2 6) (x1.2 7) ++ mdW am dm (x2.1 0) (x2.1 1) (x2.1 2) (x2.2 0) (x2.2 1) (x2.2 2) (x2.2 3) (x2.2 4) (x2.2 5)) H locs := hI
        refine lv_goto (tgt := 188) hx hb dL_law_80 (by decide) ?_
        refine lv_iinc (v := (nI (i + 3))) (lv' := [(3, .int (nI (i + 3))), (0, .ref b), (1, .ref (ad 0)), (2, .ref (am 0))]) hx hb dL_law_188 hl (k := 3) rfl (ki_3 _) (by decide) rfl (fun ls hl => ?_)
        refine lv_goto (tgt := 18) hx hb dL_law_191 (by decide) ?_
        exact ih (i + 3) (sg_init (rdy, q, w, P, g, tk, S)) (x1.1 0) (x1.1 1) (x1.1 2) (x1.1 3) (x1.1 4) (x1.1 5) (x1.1 6) (x1.2 0) (x1.2 1) (x1.2 2) (x1.2 3) (x1.2 4) (x1.2 5) (x1.2 6) (x1.2 7) (x2.1 0) (x2.1 1) (x2.1 2) (x2.2 0) (x2.2 1) (x2.2 2) (x2.2 3) (x2.2 4) (x2.2 5) H locs ls (by omega) (by omega) (sg_AI_init (sg_AI_mono hAI (by omega))) hx1 hx2 hI (lv_sub hl [1, 2, 3, 0] rfl)
      · refine lv_tableIn (tgt := 83) hx hb dL_law_32 (by decide) (by decide) rfl (by decide) ?_
        refine lv_aload_n hx hb dL_law_83 rfl (lv_at hl 1 rfl) ?_
        refine lv_aload_n hx hb dL_law_84 rfl (lv_at hl 0 rfl) ?_
        refine lv_iload_n hx hb dL_law_85 rfl (lv_at hl 3 rfl) ?_
        refine lv_iconst (v := nI 1) hx hb dL_law_86 kc_1 ?_
        refine sp_iadd (z := i + 1) hx hb rfl dL_law_87 ?_
        refine sp_sld hx hb hX hbl hbA hI.2.2 (by omega) (by omega) dL_law_88 ?_
        refine sp_callLi (ci := 0) 1 F (met_begin l D ad d _ lo hi rl rh rt tl th rd ra su po pp li gi ta rdy q w P g tk S hC i (by omega) hAI (xs (i + 1))) (lw_V q73 q74 q75 q12 q76) rfl rfl (by decide +kernel) ⟨Nat.le_of_ble_eq_true rfl, Nat.le_of_ble_eq_true rfl⟩ hK0 hI hA rfl rfl rfl hl.1 rfl (Nat.le_of_ble_eq_true rfl) dL_law_89 hf (fun r1 x1 H locs hx1 hI => ?_)
        have hI : sp_in D (fun q : Nat => s.heap.size ≤ q) s.heap (spW ad d (x1.1 0) (x1.1 1) (x1.1 2) (x1.1 3) (x1.1 4) (x1.1 5) (x1.1 6) (x1.2 0) (x1.2 1) (x1.2 2) (x1.2 3) (x1.2 4) (x1.2 5) (x1.2 6) (x1.2 7) ++ mdW am dm st ot sm ir ib wa pl tb co) H locs := hI
        refine lv_aload_n hx hb dL_law_92 rfl (lv_at hl 2 rfl) ?_
        refine lv_aload_n hx hb dL_law_93 rfl (lv_at hl 0 rfl) ?_
        refine lv_iload_n hx hb dL_law_94 rfl (lv_at hl 3 rfl) ?_
        refine lv_iconst (v := nI 1) hx hb dL_law_95 kc_1 ?_
        refine sp_iadd (z := i + 1) hx hb rfl dL_law_96 ?_
        refine sp_sld hx hb hX hbl hbA hI.2.2 (by omega) (by omega) dL_law_97 ?_
        have hI := sp_swap hI
        refine sp_callLi (ci := 1) 1 F (met1_begin l D am dm _ st ot sm ir ib wa pl tb co rdy q w P g tk S hM i (by omega) hAI (xs (i + 1))) (lw_V q159 q160 q161 q13 q162) rfl rfl (by decide +kernel) ⟨Nat.le_of_ble_eq_true rfl, Nat.le_of_ble_eq_true rfl⟩ hK1 hI hA rfl rfl rfl hl.1 rfl (Nat.le_of_ble_eq_true rfl) dL_law_98 hf (fun r2 x2 H locs hx2 hI => ?_)
        have hI := sp_swap hI
        have hI : sp_in D (fun q : Nat => s.heap.size ≤ q) s.heap (spW ad d (x1.1 0) (x1.1 1) (x1.1 2) (x1.1 3) (x1.1 4) (x1.1 5) (x1.1 6) (x1.2 0) (x1.2 1) (x1.2 2) (x1.2 3) (x1.2 4) (x1.2 5) (x1.2 6) (x1.2 7) ++ mdW am dm (x2.1 0) (x2.1 1) (x2.1 2) (x2.2 0) (x2.2 1) (x2.2 2) (x2.2 3) (x2.2 4) (x2.2 5)) H locs := hI
        refine lv_icmp_eq (tgt := 188) hx hb dL_law_101 (by decide) (fun c2 => ?_) (fun c2 => ?_)
        · refine lv_iinc (v := (nI (i + 3))) (lv' := [(3, .int (nI (i + 3))), (0, .ref b), (1, .ref (ad 0)), (2, .ref (am 0))]) hx hb dL_law_188 hl (k := 3) rfl (ki_3 _) (by decide) rfl (fun ls hl => ?_)
          refine lv_goto (tgt := 18) hx hb dL_law_191 (by decide) ?_
          exact ih (i + 3) (sg_begin (rdy, q, w, P, g, tk, S) (xs (i + 1))).2 (x1.1 0) (x1.1 1) (x1.1 2) (x1.1 3) (x1.1 4) (x1.1 5) (x1.1 6) (x1.2 0) (x1.2 1) (x1.2 2) (x1.2 3) (x1.2 4) (x1.2 5) (x1.2 6) (x1.2 7) (x2.1 0) (x2.1 1) (x2.1 2) (x2.2 0) (x2.2 1) (x2.2 2) (x2.2 3) (x2.2 4) (x2.2 5) H locs ls (by omega) (by omega) (sg_AI_begin _ (sg_AI_mono hAI (by omega))) hx1.2 hx2.2 hI (lv_sub hl [1, 2, 3, 0] rfl)
        · exact absurd (hx1.1.trans hx2.1.symm) c2
      · refine lv_tableIn (tgt := 106) hx hb dL_law_32 (by decide) (by decide) rfl (by decide) ?_
        refine lv_aload_n hx hb dL_law_106 rfl (lv_at hl 1 rfl) ?_
        refine lv_aload_n hx hb dL_law_107 rfl (lv_at hl 0 rfl) ?_
        refine lv_iload_n hx hb dL_law_108 rfl (lv_at hl 3 rfl) ?_
        refine lv_iconst (v := nI 1) hx hb dL_law_109 kc_1 ?_
        refine sp_iadd (z := i + 1) hx hb rfl dL_law_110 ?_
        refine sp_sld hx hb hX hbl hbA hI.2.2 (by omega) (by omega) dL_law_111 ?_
        refine sp_callLi (ci := 0) 1 F (met_absorb l D ad d _ lo hi rl rh rt tl th rd ra su po pp li gi ta rdy q w P g tk S hC i (by omega) hAI (xs (i + 1))) (lw_V q77 q78 q79 q12 q80) rfl rfl (by decide +kernel) ⟨Nat.le_of_ble_eq_true rfl, Nat.le_of_ble_eq_true rfl⟩ hK0 hI hA rfl rfl rfl hl.1 rfl (Nat.le_of_ble_eq_true rfl) dL_law_112 hf (fun r1 x1 H locs hx1 hI => ?_)
        have hI : sp_in D (fun q : Nat => s.heap.size ≤ q) s.heap (spW ad d (x1.1 0) (x1.1 1) (x1.1 2) (x1.1 3) (x1.1 4) (x1.1 5) (x1.1 6) (x1.2 0) (x1.2 1) (x1.2 2) (x1.2 3) (x1.2 4) (x1.2 5) (x1.2 6) (x1.2 7) ++ mdW am dm st ot sm ir ib wa pl tb co) H locs := hI
        refine lv_aload_n hx hb dL_law_115 rfl (lv_at hl 2 rfl) ?_
        refine lv_aload_n hx hb dL_law_116 rfl (lv_at hl 0 rfl) ?_
        refine lv_iload_n hx hb dL_law_117 rfl (lv_at hl 3 rfl) ?_
        refine lv_iconst (v := nI 1) hx hb dL_law_118 kc_1 ?_
        refine sp_iadd (z := i + 1) hx hb rfl dL_law_119 ?_
        refine sp_sld hx hb hX hbl hbA hI.2.2 (by omega) (by omega) dL_law_120 ?_
        have hI := sp_swap hI
        refine sp_callLi (ci := 1) 1 F (met1_absorb l D am dm _ st ot sm ir ib wa pl tb co rdy q w P g tk S hM i (by omega) hAI (xs (i + 1))) (lw_V q163 q164 q165 q13 q166) rfl rfl (by decide +kernel) ⟨Nat.le_of_ble_eq_true rfl, Nat.le_of_ble_eq_true rfl⟩ hK1 hI hA rfl rfl rfl hl.1 rfl (Nat.le_of_ble_eq_true rfl) dL_law_121 hf (fun r2 x2 H locs hx2 hI => ?_)
        have hI := sp_swap hI
        have hI : sp_in D (fun q : Nat => s.heap.size ≤ q) s.heap (spW ad d (x1.1 0) (x1.1 1) (x1.1 2) (x1.1 3) (x1.1 4) (x1.1 5) (x1.1 6) (x1.2 0) (x1.2 1) (x1.2 2) (x1.2 3) (x1.2 4) (x1.2 5) (x1.2 6) (x1.2 7) ++ mdW am dm (x2.1 0) (x2.1 1) (x2.1 2) (x2.2 0) (x2.2 1) (x2.2 2) (x2.2 3) (x2.2 4) (x2.2 5)) H locs := hI
        refine lv_icmp_eq (tgt := 188) hx hb dL_law_124 (by decide) (fun c2 => ?_) (fun c2 => ?_)
        · refine lv_iinc (v := (nI (i + 3))) (lv' := [(3, .int (nI (i + 3))), (0, .ref b), (1, .ref (ad 0)), (2, .ref (am 0))]) hx hb dL_law_188 hl (k := 3) rfl (ki_3 _) (by decide) rfl (fun ls hl => ?_)
          refine lv_goto (tgt := 18) hx hb dL_law_191 (by decide) ?_
          exact ih (i + 3) (sg_absorb (rdy, q, w, P, g, tk, S) (xs (i + 1))).2 (x1.1 0) (x1.1 1) (x1.1 2) (x1.1 3) (x1.1 4) (x1.1 5) (x1.1 6) (x1.2 0) (x1.2 1) (x1.2 2) (x1.2 3) (x1.2 4) (x1.2 5) (x1.2 6) (x1.2 7) (x2.1 0) (x2.1 1) (x2.1 2) (x2.2 0) (x2.2 1) (x2.2 2) (x2.2 3) (x2.2 4) (x2.2 5) H locs ls (by omega) (by omega) (sg_AI_absorb _ (sg_AI_mono hAI (by omega))) hx1.2 hx2.2 hI (lv_sub hl [1, 2, 3, 0] rfl)
        · exact absurd (hx1.1.trans hx2.1.symm) c2
      · refine lv_tableIn (tgt := 129) hx hb dL_law_32 (by decide) (by decide) rfl (by decide) ?_
        refine lv_aload_n hx hb dL_law_129 rfl (lv_at hl 1 rfl) ?_
        refine sp_callLi (ci := 0) 0 F (met_squeeze l D ad d _ lo hi rl rh rt tl th rd ra su po pp li gi ta rdy q w P g tk S hC i (by omega) hAI) (lw_V q104 q105 q106 q12 q107) rfl rfl (by decide +kernel) ⟨Nat.le_of_ble_eq_true rfl, Nat.le_of_ble_eq_true rfl⟩ hK0 hI hA rfl rfl rfl hl.1 rfl (Nat.le_of_ble_eq_true rfl) dL_law_130 hf (fun r1 x1 H locs hx1 hI => ?_)
        have hI : sp_in D (fun q : Nat => s.heap.size ≤ q) s.heap (spW ad d (x1.1 0) (x1.1 1) (x1.1 2) (x1.1 3) (x1.1 4) (x1.1 5) (x1.1 6) (x1.2 0) (x1.2 1) (x1.2 2) (x1.2 3) (x1.2 4) (x1.2 5) (x1.2 6) (x1.2 7) ++ mdW am dm st ot sm ir ib wa pl tb co) H locs := hI
        refine lv_aload_n hx hb dL_law_133 rfl (lv_at hl 2 rfl) ?_
        have hI := sp_swap hI
        refine sp_callLi (ci := 1) 0 F (met1_squeeze l D am dm _ st ot sm ir ib wa pl tb co rdy q w P g tk S hM i (by omega) hAI) (lw_V q194 q195 q196 q13 q197) rfl rfl (by decide +kernel) ⟨Nat.le_of_ble_eq_true rfl, Nat.le_of_ble_eq_true rfl⟩ hK1 hI hA rfl rfl rfl hl.1 rfl (Nat.le_of_ble_eq_true rfl) dL_law_134 hf (fun r2 x2 H locs hx2 hI => ?_)
        have hI := sp_swap hI
        have hI : sp_in D (fun q : Nat => s.heap.size ≤ q) s.heap (spW ad d (x1.1 0) (x1.1 1) (x1.1 2) (x1.1 3) (x1.1 4) (x1.1 5) (x1.1 6) (x1.2 0) (x1.2 1) (x1.2 2) (x1.2 3) (x1.2 4) (x1.2 5) (x1.2 6) (x1.2 7) ++ mdW am dm (x2.1 0) (x2.1 1) (x2.1 2) (x2.2 0) (x2.2 1) (x2.2 2) (x2.2 3) (x2.2 4) (x2.2 5)) H locs := hI
        refine lv_icmp_eq (tgt := 188) hx hb dL_law_137 (by decide) (fun c2 => ?_) (fun c2 => ?_)
        · refine lv_iinc (v := (nI (i + 3))) (lv' := [(3, .int (nI (i + 3))), (0, .ref b), (1, .ref (ad 0)), (2, .ref (am 0))]) hx hb dL_law_188 hl (k := 3) rfl (ki_3 _) (by decide) rfl (fun ls hl => ?_)
          refine lv_goto (tgt := 18) hx hb dL_law_191 (by decide) ?_
          exact ih (i + 3) (sg_squeeze (rdy, q, w, P, g, tk, S)).2 (x1.1 0) (x1.1 1) (x1.1 2) (x1.1 3) (x1.1 4) (x1.1 5) (x1.1 6) (x1.2 0) (x1.2 1) (x1.2 2) (x1.2 3) (x1.2 4) (x1.2 5) (x1.2 6) (x1.2 7) (x2.1 0) (x2.1 1) (x2.1 2) (x2.2 0) (x2.2 1) (x2.2 2) (x2.2 3) (x2.2 4) (x2.2 5) H locs ls (by omega) (by omega) (sg_AI_mono (sg_AI_squeeze hAI) (by omega)) hx1.2 hx2.2 hI (lv_sub hl [1, 2, 3, 0] rfl)
        · exact absurd (hx1.1.trans hx2.1.symm) c2
      · refine lv_tableIn (tgt := 142) hx hb dL_law_32 (by decide) (by decide) rfl (by decide) ?_
        refine lv_aload_n hx hb dL_law_142 rfl (lv_at hl 1 rfl) ?_
        refine lv_aload_n hx hb dL_law_143 rfl (lv_at hl 0 rfl) ?_
        refine lv_iload_n hx hb dL_law_144 rfl (lv_at hl 3 rfl) ?_
        refine lv_iconst (v := nI 1) hx hb dL_law_145 kc_1 ?_
        refine sp_iadd (z := i + 1) hx hb rfl dL_law_146 ?_
        refine sp_sld hx hb hX hbl hbA hI.2.2 (by omega) (by omega) dL_law_147 ?_
        refine lv_aload_n hx hb dL_law_148 rfl (lv_at hl 0 rfl) ?_
        refine lv_iload_n hx hb dL_law_149 rfl (lv_at hl 3 rfl) ?_
        refine lv_iconst (v := nI 2) hx hb dL_law_150 kc_2 ?_
        refine sp_iadd (z := i + 2) hx hb rfl dL_law_151 ?_
        refine sp_sld hx hb hX hbl hbA hI.2.2 (by omega) (by omega) dL_law_152 ?_
        refine sp_callLi (ci := 0) 2 F (met_lane l D ad d _ lo hi rl rh rt tl th rd ra su po pp li gi ta rdy q w P g tk S hC i (by omega) hAI (xs (i + 1)) (xs (i + 2))) (lw_V q112 q113 q114 q12 q115) rfl rfl (by decide +kernel) ⟨Nat.le_of_ble_eq_true rfl, Nat.le_of_ble_eq_true rfl⟩ hK0 hI hA rfl rfl rfl hl.1 rfl (Nat.le_of_ble_eq_true rfl) dL_law_153 hf (fun r1 _ H locs hx1 hI => ?_)
        have hI : sp_in D (fun q : Nat => s.heap.size ≤ q) s.heap (spW ad d lo hi rl rh rt tl th rd ra su po pp li gi ta ++ mdW am dm st ot sm ir ib wa pl tb co) H locs := hI
        refine lv_aload_n hx hb dL_law_156 rfl (lv_at hl 2 rfl) ?_
        refine lv_aload_n hx hb dL_law_157 rfl (lv_at hl 0 rfl) ?_
        refine lv_iload_n hx hb dL_law_158 rfl (lv_at hl 3 rfl) ?_
        refine lv_iconst (v := nI 1) hx hb dL_law_159 kc_1 ?_
        refine sp_iadd (z := i + 1) hx hb rfl dL_law_160 ?_
        refine sp_sld hx hb hX hbl hbA hI.2.2 (by omega) (by omega) dL_law_161 ?_
        refine lv_aload_n hx hb dL_law_162 rfl (lv_at hl 0 rfl) ?_
        refine lv_iload_n hx hb dL_law_163 rfl (lv_at hl 3 rfl) ?_
        refine lv_iconst (v := nI 2) hx hb dL_law_164 kc_2 ?_
        refine sp_iadd (z := i + 2) hx hb rfl dL_law_165 ?_
        refine sp_sld hx hb hX hbl hbA hI.2.2 (by omega) (by omega) dL_law_166 ?_
        have hI := sp_swap hI
        refine sp_callLi (ci := 1) 2 F (met1_lane l D am dm _ st ot sm ir ib wa pl tb co rdy q w P g tk S hM i (by omega) hAI (xs (i + 1)) (xs (i + 2))) (lw_V q199 q200 q201 q13 q202) rfl rfl (by decide +kernel) ⟨Nat.le_of_ble_eq_true rfl, Nat.le_of_ble_eq_true rfl⟩ hK1 hI hA rfl rfl rfl hl.1 rfl (Nat.le_of_ble_eq_true rfl) dL_law_167 hf (fun r2 _ H locs hx2 hI => ?_)
        have hI := sp_swap hI
        have hI : sp_in D (fun q : Nat => s.heap.size ≤ q) s.heap (spW ad d lo hi rl rh rt tl th rd ra su po pp li gi ta ++ mdW am dm st ot sm ir ib wa pl tb co) H locs := hI
        refine lv_icmp_eq (tgt := 188) hx hb dL_law_170 (by decide) (fun c2 => ?_) (fun c2 => ?_)
        · refine lv_iinc (v := (nI (i + 3))) (lv' := [(3, .int (nI (i + 3))), (0, .ref b), (1, .ref (ad 0)), (2, .ref (am 0))]) hx hb dL_law_188 hl (k := 3) rfl (ki_3 _) (by decide) rfl (fun ls hl => ?_)
          refine lv_goto (tgt := 18) hx hb dL_law_191 (by decide) ?_
          exact ih (i + 3) (rdy, q, w, P, g, tk, S) lo hi rl rh rt tl th rd ra su po pp li gi ta st ot sm ir ib wa pl tb co H locs ls (by omega) (by omega) (sg_AI_mono hAI (by omega)) hC hM hI (lv_sub hl [1, 2, 3, 0] rfl)
        · exact absurd (hx1.trans hx2.symm) c2
      · refine lv_tableIn (tgt := 175) hx hb dL_law_32 (by decide) (by decide) rfl (by decide) ?_
        refine lv_aload_n hx hb dL_law_175 rfl (lv_at hl 1 rfl) ?_
        refine sp_callLi (ci := 0) 0 F (met_count l D ad d _ lo hi rl rh rt tl th rd ra su po pp li gi ta rdy q w P g tk S hC i (by omega) hAI) (lw_V q116 q117 q118 q12 q119) rfl rfl (by decide +kernel) ⟨Nat.le_of_ble_eq_true rfl, Nat.le_of_ble_eq_true rfl⟩ hK0 hI hA rfl rfl rfl hl.1 rfl (Nat.le_of_ble_eq_true rfl) dL_law_176 hf (fun r1 _ H locs hx1 hI => ?_)
        have hI : sp_in D (fun q : Nat => s.heap.size ≤ q) s.heap (spW ad d lo hi rl rh rt tl th rd ra su po pp li gi ta ++ mdW am dm st ot sm ir ib wa pl tb co) H locs := hI
        refine lv_aload_n hx hb dL_law_179 rfl (lv_at hl 2 rfl) ?_
        have hI := sp_swap hI
        refine sp_callLi (ci := 1) 0 F (met1_count l D am dm _ st ot sm ir ib wa pl tb co rdy q w P g tk S hM i (by omega) hAI) (lw_V q203 q204 q205 q13 q206) rfl rfl (by decide +kernel) ⟨Nat.le_of_ble_eq_true rfl, Nat.le_of_ble_eq_true rfl⟩ hK1 hI hA rfl rfl rfl hl.1 rfl (Nat.le_of_ble_eq_true rfl) dL_law_180 hf (fun r2 _ H locs hx2 hI => ?_)
        have hI := sp_swap hI
        have hI : sp_in D (fun q : Nat => s.heap.size ≤ q) s.heap (spW ad d lo hi rl rh rt tl th rd ra su po pp li gi ta ++ mdW am dm st ot sm ir ib wa pl tb co) H locs := hI
        refine lv_icmp_eq (tgt := 188) hx hb dL_law_183 (by decide) (fun c2 => ?_) (fun c2 => ?_)
        · refine lv_iinc (v := (nI (i + 3))) (lv' := [(3, .int (nI (i + 3))), (0, .ref b), (1, .ref (ad 0)), (2, .ref (am 0))]) hx hb dL_law_188 hl (k := 3) rfl (ki_3 _) (by decide) rfl (fun ls hl => ?_)
          refine lv_goto (tgt := 18) hx hb dL_law_191 (by decide) ?_
          exact ih (i + 3) (rdy, q, w, P, g, tk, S) lo hi rl rh rt tl th rd ra su po pp li gi ta st ot sm ir ib wa pl tb co H locs ls (by omega) (by omega) (sg_AI_mono hAI (by omega)) hC hM hI (lv_sub hl [1, 2, 3, 0] rfl)
        · exact absurd (hx1.trans hx2.symm) c2
      · refine lv_tableOut (tgt := 188) hx hb dL_law_32 (by decide) (by decide) ?_
        refine lv_iinc (v := (nI (i + 3))) (lv' := [(3, .int (nI (i + 3))), (0, .ref b), (1, .ref (ad 0)), (2, .ref (am 0))]) hx hb dL_law_188 hl (k := 3) rfl (ki_3 _) (by decide) rfl (fun ls hl => ?_)
        refine lv_goto (tgt := 18) hx hb dL_law_191 (by decide) ?_
        exact ih (i + 3) (rdy, q, w, P, g, tk, S) lo hi rl rh rt tl th rd ra su po pp li gi ta st ot sm ir ib wa pl tb co H locs ls (by omega) (by omega) (sg_AI_mono hAI (by omega)) hC hM hI (lv_sub hl [1, 2, 3, 0] rfl)
      · refine lv_tableOut (tgt := 188) hx hb dL_law_32 (by decide) (by decide) ?_
        refine lv_iinc (v := (nI (i + 3))) (lv' := [(3, .int (nI (i + 3))), (0, .ref b), (1, .ref (ad 0)), (2, .ref (am 0))]) hx hb dL_law_188 hl (k := 3) rfl (ki_3 _) (by decide) rfl (fun ls hl => ?_)
        refine lv_goto (tgt := 18) hx hb dL_law_191 (by decide) ?_
        exact ih (i + 3) (rdy, q, w, P, g, tk, S) lo hi rl rh rt tl th rd ra su po pp li gi ta st ot sm ir ib wa pl tb co H locs ls (by omega) (by omega) (sg_AI_mono hAI (by omega)) hC hM hI (lv_sub hl [1, 2, 3, 0] rfl)
end
section
set_option maxHeartbeats 4000000 in
set_option maxRecDepth 100000 in
/-- from the entry, for every script of at most 192 ints, the law comes to its end with true -/
theorem whole_start {p : Program} {e : Env} {s : State} {m : MethodId} {below : List Frame} {meth : Method} {c : Code} (l : Launch) {b L : Nat} {xs : Nat → Int32} (hL : L ≤ 192) (C0 : lw_At p s m meth c b L xs) : W p l e room_1 s m #[Value.ref b] below meth c s.heap [] 0 0 (lw_Z below #[Value.ref b] s) (entryFrame m ([Value.ref b] : List Value).toArray 4) := by
  obtain ⟨hx, hb, hr, hml, hown, hts0, hX, hbl, hlocks, hgv⟩ := id C0
  have hts : ∀ w ∈ lw_all, w.before #[Value.ref b] s = true := fun w h => hts0 w (lw_all_tbl h)
  have F : CallFix p m c cL_law 4 s #[Value.ref b] lw_all R_law := ⟨hx, hb, hml, hown, hts⟩
  have hA : ∀ q : Nat, s.heap.size ≤ q → (fun q : Nat => s.heap.size ≤ q) q := fun _ h => h
  have hbA : ¬ (fun q : Nat => s.heap.size ≤ q) b := Nat.not_le.mpr hbl
  obtain ⟨c0, iS0, hKn0⟩ := u_known (C := RX0) (T := TX0) (N := 15) (n := 15) hts0 (fun w h => lw_all_tbl (in_X0 w h)) (hts0 _ (lw_all_tbl q15))
  obtain ⟨c1, iS1, hKn1⟩ := u_known (C := RX1) (T := TX1) (N := 9) (n := 9) hts0 (fun w h => lw_all_tbl (in_X1 w h)) (hts0 _ (lw_all_tbl q121))
  obtain ⟨dC, dI, hKc⟩ : ∃ (dC : Nat → ClassId) (dI : Nat → Nat → Nat), ∀ (k : Nat) (q : vw_C), vwCl[k]? = some q → u_Kn s q.1 q.2.1 q.2.2 (dC k) (dI k) := by
    refine ⟨fun k => if k = 0 then c0 else c1, fun k => if k = 0 then iS0 else iS1, ?_⟩
    intro k q hq
    match k, hq with
    | 0, hq => cases hq; exact hKn0
    | 1, hq => cases hq; exact hKn1
    | k + 2, hq => simp [vwCl] at hq
  obtain ⟨D, hDe⟩ : ∃ D : va_G, D = (dC, dI) := ⟨_, rfl⟩
  have hS : va_S (fun q : Nat => s.heap.size ≤ q) s.heap s.heap [] := va_S.rf
  have hK : va_K D vwCl [] s := by rw [hDe]; exact ⟨hKc, fun k q h => by simp at h⟩
  have hP : va_P D vwCl [] s.heap := fun k q h => by simp at h
  have hD : va_D (fun q : Nat => s.heap.size ≤ q) [] := ⟨fun i j p q h => by simp at h, fun k q h => by simp at h⟩
  have hl := lv_entry ([.ref b]) (n := 4) (Nat.le_of_ble_eq_true rfl)
  rw [lg_entry_eq]
  generalize (lg_sl ([.ref b]) ++ List.replicate (4 - (lg_sl ([.ref b])).length) Slot.unset).toArray = ls at hl ⊢
  have hl : lv_has ls 4 [(0, .ref b)] := hl
  refine va_new (ci := 0) (fs := [.null, .null, .null, .null, .null, .null, .null, .int 0, .int 0, .int 0, .int 0, .int 0, .int 0, .int 0, .int 0]) (C := RX0) (T := TX0) (N := 15) hx hb hts in_X0 tyX0 tyX0_ok hown (hts _ q14) (hts _ q15) (hts _ q12) hK hP hD hS hA rfl (fun j hj => by rcases (show j = 0 ∨ j = 1 ∨ j = 2 ∨ j = 3 ∨ j = 4 ∨ j = 5 ∨ j = 6 ∨ j = 7 ∨ j = 8 ∨ j = 9 ∨ j = 10 ∨ j = 11 ∨ j = 12 ∨ j = 13 ∨ j = 14 by omega) with rfl | rfl | rfl | rfl | rfl | rfl | rfl | rfl | rfl | rfl | rfl | rfl | rfl | rfl | rfl <;> rfl) (Nat.le_of_ble_eq_true rfl) (Nat.le_of_ble_eq_true rfl) dL_law_0 (fun q0 H hP hD hS => ?_)
  have hP : va_P D vwCl [(q0, .inr (0, [.null, .null, .null, .null, .null, .null, .null, .int 0, .int 0, .int 0, .int 0, .int 0, .int 0, .int 0, .int 0]))] H := hP
  have hD : va_D (fun q : Nat => s.heap.size ≤ q) [(q0, .inr (0, [.null, .null, .null, .null, .null, .null, .null, .int 0, .int 0, .int 0, .int 0, .int 0, .int 0, .int 0, .int 0]))] := hD
  refine lv_dup hx hb dL_law_3 rfl ?_
  have hF := va_free (wc := [(q0, .inr (0, [.null, .null, .null, .null, .null, .null, .null, .int 0, .int 0, .int 0, .int 0, .int 0, .int 0, .int 0, .int 0]))]) hD hS hA [0] rfl
  refine va_callv (va_runI (As := []) (rest := [.ref q0]) F (met_new l D q0 H.size) (cwI 0 hts (lw_meth q18) rfl rfl rfl (hts _ q12) (hts _ q16) (hts _ q17) rfl (by decide +kernel) ⟨Nat.le_of_ble_eq_true rfl, Nat.le_of_ble_eq_true rfl⟩) ⟨sp_blind, fun U hU hW => ⟨rfl, by rw [hU], by rw [hU]; exact hP, va_K.moved hW.alike hK, hD.weaken (fun _ _ _ _ => trivial)⟩⟩ rfl rfl hl.1 rfl (lv_room (Nat.le_of_ble_eq_true rfl)) dL_law_4 ⟨Nat.le_of_ble_eq_true rfl, Nat.le_of_ble_eq_true rfl⟩) hS (fun q _ h => hF q h) hF (fun u t H1 locs ht hvm hw hB hz1 hk1 hS => ?_)
  obtain ⟨ad, d, e0, hP1, hK1, hD1⟩ := hB
  rw [ht] at hP1
  subst e0
  have hK := va_K.moved hvm.symm hK1
  have hD := hD1.weaken (B := (fun q : Nat => s.heap.size ≤ q)) (fun _ q _ h => hF q.1 h)
  generalize H1 = H at hP1 hS ⊢
  refine W.widen (k := 8) (n := 188) (by decide) (by decide) ?_
  refine lv_astore_n (lv' := [(1, .ref (ad 0)), (0, .ref b)]) hx hb dL_law_7 rfl hl (by decide) rfl (fun ls hl => ?_)
  refine va_new (ci := 1) (fs := [.int 0, .int 0, .int 0, .int 0, .int 0, .int 0, .null, .null, .null]) (C := RX1) (T := TX1) (N := 9) hx hb hts in_X1 tyX1 tyX1_ok hown (hts _ q120) (hts _ q121) (hts _ q13) hK hP1 hD hS hA rfl (fun j hj => by rcases (show j = 0 ∨ j = 1 ∨ j = 2 ∨ j = 3 ∨ j = 4 ∨ j = 5 ∨ j = 6 ∨ j = 7 ∨ j = 8 by omega) with rfl | rfl | rfl | rfl | rfl | rfl | rfl | rfl | rfl <;> rfl) (Nat.le_of_ble_eq_true rfl) (Nat.le_of_ble_eq_true rfl) dL_law_8 (fun q1 H hP hD hS => ?_)
  have hI : sp_in D (fun q : Nat => s.heap.size ≤ q) s.heap ([(q1, .inr (1, [.int 0, .int 0, .int 0, .int 0, .int 0, .int 0, .null, .null, .null]))] ++ spW ad d (fun _ => 0) (fun _ => 0) (fun _ => 0) (fun _ => 0) (fun _ => 0) (fun _ => 0) (fun _ => 0) 0 0 0 0 0 0 0 0) H locs := sp_swap ⟨hP, hD, hS⟩
  refine lv_dup hx hb dL_law_11 rfl ?_
  have hF := sp_hFl hI hA
  have hKm : va_K D vwCl [] s := hK.sub [] rfl
  refine va_callv (va_runI (As := []) (rest := [.ref q1]) F (met1_new l D q1 H.size) (cwI 0 hts (lw_meth q124) rfl rfl rfl (hts _ q13) (hts _ q122) (hts _ q123) rfl (by decide +kernel) ⟨Nat.le_of_ble_eq_true rfl, Nat.le_of_ble_eq_true rfl⟩) ⟨sp_blind, fun U hU hW => ⟨rfl, by rw [hU], by rw [hU]; exact sp_pl hI.1, va_K.moved hW.alike hKm, (sp_dl hI.2.1).weaken (fun _ _ _ _ => trivial)⟩⟩ rfl rfl hl.1 rfl (lv_room (Nat.le_of_ble_eq_true rfl)) dL_law_12 ⟨Nat.le_of_ble_eq_true rfl, Nat.le_of_ble_eq_true rfl⟩) hI.2.2 (fun q _ h => hF q h) hF (fun u t H1 locs ht hvm hw hB hz1 hk1 hS => ?_)
  obtain ⟨am, dm, e0, hP1, hK1, hD1⟩ := hB
  rw [ht] at hP1
  subst e0
  have hK2 : va_K D vwCl [(d, .int), (dm, .long)] s := hK.app (va_K.moved hvm.symm hK1)
  have hI : sp_in D (fun q : Nat => s.heap.size ≤ q) s.heap (spW ad d (fun _ => 0) (fun _ => 0) (fun _ => 0) (fun _ => 0) (fun _ => 0) (fun _ => 0) (fun _ => 0) 0 0 0 0 0 0 0 0 ++ mdW am dm (fun _ => 0) (fun _ => 0) (fun _ => 0) 0 0 0 0 0 0) H1 locs := sp_swap (sp_joinL hI hk1 hF hP1 hD1 hS)
  refine W.widen (k := 12) (n := 252) (by decide) (by decide) ?_
  refine lv_astore_n (lv' := [(2, .ref (am 0)), (1, .ref (ad 0)), (0, .ref b)]) hx hb dL_law_15 rfl hl (by decide) rfl (fun ls hl => ?_)
  refine lv_iconst (v := nI 0) hx hb dL_law_16 kc_0 ?_
  refine lv_istore_n (lv' := [(3, .int (nI 0)), (2, .ref (am 0)), (1, .ref (ad 0)), (0, .ref b)]) hx hb dL_law_17 rfl hl (by decide) rfl (fun ls hl => ?_)
  exact law_loop hL C0 hK2 (L + 1) 0 (0, 0, 0, 0, 0, nI 0, fun _ => 0) (fun _ => 0) (fun _ => 0) (fun _ => 0) (fun _ => 0) (fun _ => 0) (fun _ => 0) (fun _ => 0) 0 0 0 0 0 0 0 0 (fun _ => 0) (fun _ => 0) (fun _ => 0) 0 0 0 0 0 0 H1 locs ls (Nat.zero_le L) (by omega) ⟨by decide, by decide, by decide, fun h => absurd rfl h, fun _ => rfl, fun z => absurd z (by decide), fun z => absurd z (by decide), Nat.le_refl 0⟩ ⟨rfl, rfl, rfl, rfl, fun _ => ⟨fun i _ => ⟨rfl, rfl⟩, fun k _ => rfl⟩, fun z => absurd z (by decide), fun h => absurd rfl h⟩ ⟨rfl, rfl, rfl, rfl, fun h => absurd rfl h⟩ hI (lv_sub hl [3, 2, 1, 0] rfl)
-- ===== YOUR PART ENDS =====
set_option maxHeartbeats 4000000 in
theorem lw_walk (l : Launch) (b : Addr) (xs : List Int32) : MetFree l x (headSpec (Jvm.Cond.code x code maxLocals ret :: tables_1) room_1) (lw_P b xs) (fun _ _ _ _ _ => True) lw_Q := by
  refine MetFree.of_bodyS (code := code) (maxLocals := maxLocals) (ret := ret) (by decide) ?_ ?_
  · intro args s m h hn
    obtain ⟨meth, c, h1, h2, h3, h4, h5, h6, -, -⟩ := Cond.code_spec hn (atoms_spec (ws := Jvm.Cond.code x code maxLocals ret :: tables_1) h _ List.mem_cons_self)
    exact ⟨meth, c, h1, h2, h3, h4, h5, h6⟩
  · intro p e s m args below meth c s₁ B hml0 hP _
    obtain ⟨rfl, hx, hbd, hgv⟩ := hP
    obtain ⟨scr, harrAt, hlist, hof, hsmall⟩ := hx
    obtain ⟨hcb, hkn, -, -⟩ := State.arrayAt?_spec harrAt
    have hown : s.vm.findClass R_law = some m.cls := findClass_of_methodNamed B.named
    have hts0 : ∀ c ∈ (Jvm.Cond.code x code maxLocals ret :: tables_1), c.before #[Value.ref b] s = true := atoms_spec (ws := Jvm.Cond.code x code maxLocals ret :: tables_1) B.pre
    have hts : ∀ w ∈ lw_tbl, w.before #[Value.ref b] s = true := k2_hts_sels lw_privs (fun w hw => hts0 w (List.mem_cons_of_mem _ hw)) lw_privs_ok
    have hml : c.maxLocals = 4 := B.maxLocals_eq (hts0 _ List.mem_cons_self)
    have X₀ : Stand p l e room_1 s m #[Value.ref b] below meth c s₁ [] 0 0 := Stand.of_body B
    have hh0 : s₁.heap = s.heap := by rw [B.state]; rfl
    have hsz : scr.slots.size = xs.length := by rw [← Array.length_toList, hlist, List.length_map]
    have hval : ∀ j : Nat, j < xs.length → scr.slots[j]? = some (.int (xs.getD j 0)) := fun j hj => by
      rw [← Array.getElem?_toList, hlist]
      simp [hj]
    have hbl : b < s.heap.size := (Array.getElem?_eq_some_iff.mp hcb).1
    have hX : va_X b xs.length (fun j => xs.getD j 0) s s.heap := ⟨scr, hcb, hof, hkn, hsz, hval⟩
    have K : W p l e room_1 s m #[Value.ref b] below meth c s₁.heap [] 0 0 (lw_Z below #[Value.ref b] s) (entryFrame m ([Value.ref b] : List Value).toArray 4) := by
      rw [hh0]
      exact whole_start l hbd ⟨B.exec, B.bytes, B.returns, hml, hown, hts, hX, hbl, B.notSynchronized, hgv⟩
    obtain ⟨t, a1, o, b1, b2, b3⟩ := K s₁ rfl X₀
    exact ⟨t, o, a1, b1, b2, b3⟩
theorem lw_pre_spec {args : Array Value} {s : State} (h : (Jvm.Cond.and given_1 narrow_1).before args s = true) (hr : rest_1_c.before args s = true) : ∃ (b : Addr) (xs : List Int32), lw_P b xs args s := by
  have hs := flat_of_before _ h
  have hq := flat_of_before _ hr
  have hc : (Cond.count 1).before args s = true := hs _ (by decide +kernel)
  have harr : (Cond.arrayOf (.arg 0) .int).before args s = true := hs _ (by decide +kernel)
  have hle : (Cond.le (.length (.arg 0)) (.int 192)).before args s = true := hs _ (by decide +kernel)
  have hlen : (Cond.isInt (.length (.arg 0))).before args s = true := hq _ (by decide +kernel)
  have hall : (Cond.all (.arg 0) (.isInt (.elem (.arg 0) (.index 0)))).before args s = true := hq _ (by decide +kernel)
  obtain ⟨b, xs, hb, hx⟩ := State.ints_of_pre rfl harr hlen hall
  have hsm : xs.length < 2 ^ 31 := hx.choose_spec.2.2.2
  have hev : (Term.length (.arg 0)).eval args s none [] s = some (.int xs.length.toInt32) := hx.length_eval hb
  have hv := Cond.le_ints hev (show (Term.int 192).eval args s none [] s = some (.int 192) from rfl)
  have hd : xs.length.toInt32 ≤ 192 := by
    simpa [Cond.before, Cond.holds, hv] using hle
  have hN : xs.length ≤ 192 := (Int32.ofNat_le_ofNat hsm (by decide)).mp (show Int32.ofNat xs.length ≤ Int32.ofNat 192 from hd)
  exact ⟨b, xs, Cond.one_arg hc (show args[0]? = some (.ref b) from hb), hx, hN, h⟩
theorem lw_comes (l : Launch) : Comes l x (Jvm.Cond.code x code maxLocals ret :: tables_1) room_1 (fun tb e args s => Calls_1 tb e args s ∧ rest_1 tb e args s ∧ Pre_1 tb e args s)
    (fun _ _ args s o t => lw_Q args s o t) := by
  intro p e ha hc hk s m args below hf hfit hheap happ hpre
  obtain ⟨b, xs, hP⟩ := lw_pre_spec hpre.2.2 hpre.2.1
  obtain ⟨k, o, h1, h2, h3, hQ⟩ := lw_walk l b xs p e ha hc hk s m args below hf ((Spec.applies_iff_loose hf).mp happ).1 hP trivial
  exact ⟨k, o, h1, h2, h3, hQ⟩
theorem lw_frame {s t : State} {o : Outcome} {args : Array Value} (h : Framed s o t [] 600000 7290000) :
    Framed s o t (fieldLocs frame_1_writes args s ++ arrayLocs frame_1_arrays args s ++ staticLocs frame_1_statics s) 600000 7290000 := h
theorem lw_limb (L : Cond) (hL : ∀ (args : Array Value) (s t : State), L.after args s (.returned (some (.int 1))) t = true) :
    ArmFor flags0 classFile x code maxLocals ret World_1 tables_1 room_1 Calls_1 rest_1 Pre_1
      (fun tb e a s o t => postC L tb e a s o t ∧ Framed s o t (fieldLocs frame_1_writes a s ++ arrayLocs frame_1_arrays a s ++ staticLocs frame_1_statics s) 600000 7290000) := by
  intro l _ _ _ p e ha hc hk s m args below hf hfit hheap happ hpre
  obtain ⟨k, o, h1, h2, h3, rfl, hF⟩ := lw_comes l p e ha hc hk s m args below hf hfit hheap happ hpre
  exact ⟨k, _, h1, h2, h3, hL args s _, lw_frame hF⟩
theorem i_vc : Claimed_1_1 ∧ Claimed_1_2 := ⟨lw_limb limb_1_1 (fun args s t => by simp [limb_1_1, Cond.after, Cond.holds, Cond.value]), lw_limb limb_1_2 (fun args s t => Cond.after_iff.mpr (by
  first | (rw [show limb_1_2 = Cond.eq .result (.int 1) from rfl, Cond.eq_ints (x := 1) (y := 1) rfl rfl]; simp; done) | (simp [limb_1_2, Cond.value, Term.eval]; done)))⟩
end
