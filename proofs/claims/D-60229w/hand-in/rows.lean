section
-- ===== PART A: goes FIRST, ahead of the names: the tables' words, and 'selects' of the private methods out of them =====
/-- a private method of a class that the tables say can be made, by its rows of tables_1 -/
def lw_okq (q : MethodName × Nat) : Prop := (q.1.cls ≠ "java/lang/invoke/MethodHandle" ∧ q.1.cls ≠ "java/lang/invoke/VarHandle") ∧ Cond.instantiable q.1.cls q.2 ∈ tables_1 ∧ Cond.privateMethod q.1 ∈ tables_1 ∧ Cond.instanceMethod q.1 ∈ tables_1
set_option maxRecDepth 100000
theorem lw_t1 {w : Cond} (h : w ∈ tables_1_1) : w ∈ tables_1 := List.mem_append_left _ h
theorem lw_t2 {w : Cond} (h : w ∈ tables_1_2) : w ∈ tables_1 := List.mem_append_right _ h
theorem lw_p0 : lw_okq (⟨"LoopVersioner", "isSafe", "(I)Z"⟩, 13) := ⟨⟨by decide +kernel, by decide +kernel⟩, lw_t1 (List.mem_of_getElem? (i := 4) rfl), lw_t1 (List.mem_of_getElem? (i := 84) rfl), lw_t1 (List.mem_of_getElem? (i := 85) rfl)⟩
theorem lw_p1 : lw_okq (⟨"LoopVersioner", "listUses", "()V"⟩, 13) := ⟨⟨by decide +kernel, by decide +kernel⟩, lw_t1 (List.mem_of_getElem? (i := 4) rfl), lw_t1 (List.mem_of_getElem? (i := 88) rfl), lw_t1 (List.mem_of_getElem? (i := 89) rfl)⟩
theorem lw_p2 : lw_okq (⟨"LoopVersioner", "use", "(IZ)V"⟩, 13) := ⟨⟨by decide +kernel, by decide +kernel⟩, lw_t1 (List.mem_of_getElem? (i := 4) rfl), lw_t1 (List.mem_of_getElem? (i := 92) rfl), lw_t1 (List.mem_of_getElem? (i := 93) rfl)⟩
theorem lw_p3 : lw_okq (⟨"LoopVersioner", "startOf", "(I)I"⟩, 13) := ⟨⟨by decide +kernel, by decide +kernel⟩, lw_t1 (List.mem_of_getElem? (i := 4) rfl), lw_t1 (List.mem_of_getElem? (i := 96) rfl), lw_t1 (List.mem_of_getElem? (i := 97) rfl)⟩
theorem lw_p4 : lw_okq (⟨"LoopVersioner", "mayClash", "(III)Z"⟩, 13) := ⟨⟨by decide +kernel, by decide +kernel⟩, lw_t1 (List.mem_of_getElem? (i := 4) rfl), lw_t1 (List.mem_of_getElem? (i := 103) rfl), lw_t1 (List.mem_of_getElem? (i := 104) rfl)⟩
theorem lw_p5 : lw_okq (⟨"LoopVersioner", "fourRounds", "(II)V"⟩, 13) := ⟨⟨by decide +kernel, by decide +kernel⟩, lw_t1 (List.mem_of_getElem? (i := 4) rfl), lw_t1 (List.mem_of_getElem? (i := 107) rfl), lw_t1 (List.mem_of_getElem? (i := 108) rfl)⟩
theorem lw_p6 : lw_okq (⟨"LoopVersioner", "oneRound", "(II)V"⟩, 13) := ⟨⟨by decide +kernel, by decide +kernel⟩, lw_t1 (List.mem_of_getElem? (i := 4) rfl), lw_t1 (List.mem_of_getElem? (i := 114) rfl), lw_t1 (List.mem_of_getElem? (i := 115) rfl)⟩
theorem lw_p7 : lw_okq (⟨"LoopVersioner", "cell", "(II)I"⟩, 13) := ⟨⟨by decide +kernel, by decide +kernel⟩, lw_t1 (List.mem_of_getElem? (i := 4) rfl), lw_t1 (List.mem_of_getElem? (i := 118) rfl), lw_t1 (List.mem_of_getElem? (i := 119) rfl)⟩
theorem lw_p8 : lw_okq (⟨"LoopVersioner", "cellSet", "(II)J"⟩, 13) := ⟨⟨by decide +kernel, by decide +kernel⟩, lw_t1 (List.mem_of_getElem? (i := 4) rfl), lw_t1 (List.mem_of_getElem? (i := 154) rfl), lw_t1 (List.mem_of_getElem? (i := 155) rfl)⟩
theorem lw_p9 : lw_okq (⟨"LoopVersionerModel", "badRef", "(I)Z"⟩, 8) := ⟨⟨by decide +kernel, by decide +kernel⟩, lw_t1 (List.mem_of_getElem? (i := 169) rfl), lw_t1 (List.mem_of_getElem? (i := 204) rfl), lw_t1 (List.mem_of_getElem? (i := 205) rfl)⟩
theorem lw_p10 : lw_okq (⟨"LoopVersionerModel", "place", "(II)I"⟩, 8) := ⟨⟨by decide +kernel, by decide +kernel⟩, lw_t1 (List.mem_of_getElem? (i := 169) rfl), lw_t1 (List.mem_of_getElem? (i := 228) rfl), lw_t1 (List.mem_of_getElem? (i := 229) rfl)⟩
theorem lw_p11 : lw_okq (⟨"LoopVersionerModel", "result", "(II)I"⟩, 8) := ⟨⟨by decide +kernel, by decide +kernel⟩, lw_t1 (List.mem_of_getElem? (i := 169) rfl), lw_t1 (List.mem_of_getElem? (i := 232) rfl), lw_t1 (List.mem_of_getElem? (i := 233) rfl)⟩
theorem lw_p12 : lw_okq (⟨"LoopVersionerModel", "visits", "(III)Z"⟩, 8) := ⟨⟨by decide +kernel, by decide +kernel⟩, lw_t1 (List.mem_of_getElem? (i := 169) rfl), lw_t2 (List.mem_of_getElem? (i := 28) rfl), lw_t2 (List.mem_of_getElem? (i := 29) rfl)⟩
def lw_privs_1 : List (MethodName × Nat) := [(⟨"LoopVersioner", "isSafe", "(I)Z"⟩, 13), (⟨"LoopVersioner", "listUses", "()V"⟩, 13), (⟨"LoopVersioner", "use", "(IZ)V"⟩, 13), (⟨"LoopVersioner", "startOf", "(I)I"⟩, 13), (⟨"LoopVersioner", "mayClash", "(III)Z"⟩, 13), (⟨"LoopVersioner", "fourRounds", "(II)V"⟩, 13), (⟨"LoopVersioner", "oneRound", "(II)V"⟩, 13), (⟨"LoopVersioner", "cell", "(II)I"⟩, 13), (⟨"LoopVersioner", "cellSet", "(II)J"⟩, 13), (⟨"LoopVersionerModel", "badRef", "(I)Z"⟩, 8), (⟨"LoopVersionerModel", "place", "(II)I"⟩, 8), (⟨"LoopVersionerModel", "result", "(II)I"⟩, 8), (⟨"LoopVersionerModel", "visits", "(III)Z"⟩, 8)]
theorem lw_r1 : ∀ q ∈ lw_privs_1, lw_okq q := List.forall_mem_cons.mpr ⟨lw_p0, List.forall_mem_cons.mpr ⟨lw_p1, List.forall_mem_cons.mpr ⟨lw_p2, List.forall_mem_cons.mpr ⟨lw_p3, List.forall_mem_cons.mpr ⟨lw_p4, List.forall_mem_cons.mpr ⟨lw_p5, List.forall_mem_cons.mpr ⟨lw_p6, List.forall_mem_cons.mpr ⟨lw_p7, List.forall_mem_cons.mpr ⟨lw_p8, List.forall_mem_cons.mpr ⟨lw_p9, List.forall_mem_cons.mpr ⟨lw_p10, List.forall_mem_cons.mpr ⟨lw_p11, List.forall_mem_cons.mpr ⟨lw_p12, fun _ h => absurd h List.not_mem_nil⟩⟩⟩⟩⟩⟩⟩⟩⟩⟩⟩⟩⟩
def lw_privs : List (MethodName × Nat) := lw_privs_1
def lw_tbl : List Cond := k2_sels lw_privs ++ tables_1
theorem lw_privs_ok : ∀ q ∈ lw_privs, lw_okq q := lw_r1
-- ===== ONE list of words for every method: the tables' words that hold all through a run =====
def lw_all : List Cond := lw_tbl.filter goodWord
/-- a word of the tables by its place: claim/WORDS.tsv -/
theorem lw_w {w : Cond} (i : Nat) (h : lw_tbl[i]? = some w) (g : goodWord w = true) : w ∈ lw_all := List.mem_filter.mpr ⟨List.mem_of_getElem? h, g⟩
theorem lw_all_tbl {w : Cond} (h : w ∈ lw_all) : w ∈ lw_tbl := (List.mem_filter.mp h).1
theorem lw_self : GoodIn lw_all lw_all := fun w h => ⟨h, good_of_word (List.mem_filter.mp h).2⟩
/-- a class's field words, by their places -/
theorem lw_in (ws : List Cond) (ps : List Nat) (hp : ws = ps.filterMap (fun i => lw_tbl[i]?)) (hg : ws.all goodWord = true) : ∀ w ∈ ws, w ∈ lw_all := by
  intro w h
  have h1 := List.all_eq_true.mp hg w h
  rw [hp] at h
  obtain ⟨i, -, hi⟩ := List.mem_filterMap.mp h
  exact lw_w i hi h1
/-- the words of a contract for the method y with code b, L locals, answer r -/
abbrev ws_ (y : MethodName) (b : ByteArray) (L : Nat) (r : Option FieldType) : List Cond := Cond.code y b L r :: lw_all
theorem lw_meth {y : MethodName} {b : ByteArray} {L : Nat} {r : Option FieldType} (h : Cond.code y b L r ∈ lw_all) : GoodIn lw_all (ws_ y b L r) := by
  intro w hw
  rcases List.mem_cons.mp hw with e | e
  · rw [e]
    exact lw_self _ h
  · exact lw_self _ e
theorem lw_app {a c : List Cond} (ha : ∀ w ∈ a, w ∈ lw_all) (hc : GoodIn lw_all c) : GoodIn lw_all (a ++ c) := by
  intro w hw
  rcases List.mem_append.mp hw with e | e
  · exact lw_self w (ha w e)
  · exact hc w e
/-- what a call through an object asks: cwV n hts (lw_V ..) -/
theorem lw_V {own : String} {idx : Nat} {C : String} {y : MethodName} {b : ByteArray} {L : Nat} {r : Option FieldType} (h1 : Cond.methodLink own idx y ∈ lw_all) (h2 : Cond.instanceMethod y ∈ lw_all) (h3 : Cond.selects C y y ∈ lw_all) (h4 : Cond.initialized C ∈ lw_all) (h5 : Cond.code y b L r ∈ lw_all) : GoodIn lw_all (wsV own idx C y (ws_ y b L r)) := by
  refine lw_app ?_ (lw_meth h5)
  intro w hw
  simp only [List.mem_cons, List.not_mem_nil, or_false] at hw
  rcases hw with e | e | e | e
  · rw [e]; exact h1
  · rw [e]; exact h2
  · rw [e]; exact h3
  · rw [e]; exact h4
/-- what a static call asks: va_cwS n hts (lw_S ..) -/
theorem lw_S {own : String} {idx : Nat} {y : MethodName} {b : ByteArray} {L : Nat} {r : Option FieldType} (h1 : Cond.methodLink own idx y ∈ lw_all) (h2 : Cond.static y ∈ lw_all) (h3 : Cond.initialized y.cls ∈ lw_all) (h4 : Cond.code y b L r ∈ lw_all) : GoodIn lw_all (va_wsS own idx y (ws_ y b L r)) := by
  refine lw_app ?_ (lw_meth h4)
  intro w hw
  simp only [List.mem_cons, List.not_mem_nil, or_false] at hw
  rcases hw with e | e | e
  · rw [e]; exact h1
  · rw [e]; exact h2
  · rw [e]; exact h3
/-- the words of a contract for a method WITH HANDLERS (hh: its table) -/
abbrev wsW_ (y : MethodName) (b : ByteArray) (L : Nat) (r : Option FieldType) (hh : List (Nat × Nat × Nat × Nat)) : List Cond := Cond.codeWith y b L r hh :: lw_all
theorem lw_methW {y : MethodName} {b : ByteArray} {L : Nat} {r : Option FieldType} {hh : List (Nat × Nat × Nat × Nat)} (h : Cond.codeWith y b L r hh ∈ lw_all) : GoodIn lw_all (wsW_ y b L r hh) := by
  intro w hw
  rcases List.mem_cons.mp hw with e | e
  · rw [e]
    exact lw_self _ h
  · exact lw_self _ e
/-- any list of words by their places (lw_in), good -/
theorem lw_good {ws : List Cond} (h : ∀ w ∈ ws, w ∈ lw_all) : GoodIn lw_all ws := fun w hw => lw_self w (h w hw)
/-- what a call of a method with handlers asks: vx_cwVW n hts (lw_VW ..), vx_cwSW n hts (lw_SW ..) -/
theorem lw_VW {own : String} {idx : Nat} {C : String} {y : MethodName} {b : ByteArray} {L : Nat} {r : Option FieldType} {hh : List (Nat × Nat × Nat × Nat)} (h1 : Cond.methodLink own idx y ∈ lw_all) (h2 : Cond.instanceMethod y ∈ lw_all) (h3 : Cond.selects C y y ∈ lw_all) (h4 : Cond.initialized C ∈ lw_all) (h5 : Cond.codeWith y b L r hh ∈ lw_all) : GoodIn lw_all (wsV own idx C y (wsW_ y b L r hh)) := by
  refine lw_app ?_ (lw_methW h5)
  intro w hw
  simp only [List.mem_cons, List.not_mem_nil, or_false] at hw
  rcases hw with e | e | e | e
  · rw [e]; exact h1
  · rw [e]; exact h2
  · rw [e]; exact h3
  · rw [e]; exact h4
theorem lw_SW {own : String} {idx : Nat} {y : MethodName} {b : ByteArray} {L : Nat} {r : Option FieldType} {hh : List (Nat × Nat × Nat × Nat)} (h1 : Cond.methodLink own idx y ∈ lw_all) (h2 : Cond.static y ∈ lw_all) (h3 : Cond.initialized y.cls ∈ lw_all) (h4 : Cond.codeWith y b L r hh ∈ lw_all) : GoodIn lw_all (va_wsS own idx y (wsW_ y b L r hh)) := by
  refine lw_app ?_ (lw_methW h4)
  intro w hw
  simp only [List.mem_cons, List.not_mem_nil, or_false] at hw
  rcases hw with e | e | e
  · rw [e]; exact h1
  · rw [e]; exact h2
  · rw [e]; exact h3
/-- a word by its place in its run of the tables -/
theorem lw_at {r : List Cond} (hr : ∀ w ∈ r, w ∈ lw_tbl) {w : Cond} (i : Nat) (h : r[i]? = some w) : w ∈ lw_tbl := hr w (List.mem_of_getElem? h)
theorem lw_g {w : Cond} (h : w ∈ lw_tbl) (g : goodWord w = true) : w ∈ lw_all := List.mem_filter.mpr ⟨h, g⟩
theorem lw_ms : ∀ w ∈ k2_sels lw_privs, w ∈ lw_tbl := fun w h => show w ∈ k2_sels lw_privs ++ tables_1 from List.mem_append_left _ h
theorem lw_m1 : ∀ w ∈ tables_1_1, w ∈ lw_tbl := fun w h => show w ∈ k2_sels lw_privs ++ tables_1 from List.mem_append_right (k2_sels lw_privs) (show w ∈ tables_1 from List.mem_append_left _ h)
theorem lw_m2 : ∀ w ∈ tables_1_2, w ∈ lw_tbl := fun w h => show w ∈ k2_sels lw_privs ++ tables_1 from List.mem_append_right (k2_sels lw_privs) (show w ∈ tables_1 from List.mem_append_right _ h)
theorem qs0 : (Cond.selects "LoopVersioner" ⟨"LoopVersioner", "isSafe", "(I)Z"⟩ ⟨"LoopVersioner", "isSafe", "(I)Z"⟩) ∈ lw_all := lw_g (lw_at lw_ms 0 rfl) rfl
theorem qs1 : (Cond.selects "LoopVersioner" ⟨"LoopVersioner", "listUses", "()V"⟩ ⟨"LoopVersioner", "listUses", "()V"⟩) ∈ lw_all := lw_g (lw_at lw_ms 1 rfl) rfl
theorem qs2 : (Cond.selects "LoopVersioner" ⟨"LoopVersioner", "use", "(IZ)V"⟩ ⟨"LoopVersioner", "use", "(IZ)V"⟩) ∈ lw_all := lw_g (lw_at lw_ms 2 rfl) rfl
theorem qs3 : (Cond.selects "LoopVersioner" ⟨"LoopVersioner", "startOf", "(I)I"⟩ ⟨"LoopVersioner", "startOf", "(I)I"⟩) ∈ lw_all := lw_g (lw_at lw_ms 3 rfl) rfl
theorem qs4 : (Cond.selects "LoopVersioner" ⟨"LoopVersioner", "mayClash", "(III)Z"⟩ ⟨"LoopVersioner", "mayClash", "(III)Z"⟩) ∈ lw_all := lw_g (lw_at lw_ms 4 rfl) rfl
theorem qs5 : (Cond.selects "LoopVersioner" ⟨"LoopVersioner", "fourRounds", "(II)V"⟩ ⟨"LoopVersioner", "fourRounds", "(II)V"⟩) ∈ lw_all := lw_g (lw_at lw_ms 5 rfl) rfl
theorem qs6 : (Cond.selects "LoopVersioner" ⟨"LoopVersioner", "oneRound", "(II)V"⟩ ⟨"LoopVersioner", "oneRound", "(II)V"⟩) ∈ lw_all := lw_g (lw_at lw_ms 6 rfl) rfl
theorem qs7 : (Cond.selects "LoopVersioner" ⟨"LoopVersioner", "cell", "(II)I"⟩ ⟨"LoopVersioner", "cell", "(II)I"⟩) ∈ lw_all := lw_g (lw_at lw_ms 7 rfl) rfl
theorem qs8 : (Cond.selects "LoopVersioner" ⟨"LoopVersioner", "cellSet", "(II)J"⟩ ⟨"LoopVersioner", "cellSet", "(II)J"⟩) ∈ lw_all := lw_g (lw_at lw_ms 8 rfl) rfl
theorem qs9 : (Cond.selects "LoopVersionerModel" ⟨"LoopVersionerModel", "badRef", "(I)Z"⟩ ⟨"LoopVersionerModel", "badRef", "(I)Z"⟩) ∈ lw_all := lw_g (lw_at lw_ms 9 rfl) rfl
theorem qs10 : (Cond.selects "LoopVersionerModel" ⟨"LoopVersionerModel", "place", "(II)I"⟩ ⟨"LoopVersionerModel", "place", "(II)I"⟩) ∈ lw_all := lw_g (lw_at lw_ms 10 rfl) rfl
theorem qs11 : (Cond.selects "LoopVersionerModel" ⟨"LoopVersionerModel", "result", "(II)I"⟩ ⟨"LoopVersionerModel", "result", "(II)I"⟩) ∈ lw_all := lw_g (lw_at lw_ms 11 rfl) rfl
theorem qs12 : (Cond.selects "LoopVersionerModel" ⟨"LoopVersionerModel", "visits", "(III)Z"⟩ ⟨"LoopVersionerModel", "visits", "(III)Z"⟩) ∈ lw_all := lw_g (lw_at lw_ms 12 rfl) rfl
end
section
/-! LoopVersioner -/
set_option maxRecDepth 100000
def RX0 : String := "LoopVersioner"
def TX0 : u_T := fun k => match k with
  | 0 => ("LoopVersioner", "memory", "[I", true)
  | 1 => ("LoopVersioner", "bases", "[I", true)
  | 2 => ("LoopVersioner", "ops", "[I", true)
  | 3 => ("LoopVersioner", "targets", "[I", true)
  | 4 => ("LoopVersioner", "sources", "[I", true)
  | 5 => ("LoopVersioner", "seconds", "[I", true)
  | 6 => ("LoopVersioner", "laneA", "[I", true)
  | 7 => ("LoopVersioner", "laneB", "[I", true)
  | 8 => ("LoopVersioner", "usedRef", "[I", true)
  | 9 => ("LoopVersioner", "usedWrites", "[Z", true)
  | 10 => ("LoopVersioner", "count", "I", false)
  | 11 => ("LoopVersioner", "used", "I", false)
  | _ => ("LoopVersioner", "sum", "I", false)
def tyX0 : Nat → FieldType := fun k => match k with
  | 0 => .array .int
  | 1 => .array .int
  | 2 => .array .int
  | 3 => .array .int
  | 4 => .array .int
  | 5 => .array .int
  | 6 => .array .int
  | 7 => .array .int
  | 8 => .array .int
  | 9 => .array .boolean
  | 10 => .int
  | 11 => .int
  | _ => .int
abbrev wsX00 : List Cond := u_ws RX0 TX0 13
set_option maxRecDepth 100000 in
theorem nmX0 : ∀ a, a < 13 → ∀ b, b < 13 → a ≠ b → (TX0 a).2.1 ≠ (TX0 b).2.1 := by decide +kernel
set_option maxRecDepth 100000 in
theorem tyX0_ok : ∀ k, k < 13 → parseFieldDescriptor (TX0 k).2.2.1 = some (tyX0 k) := by decide +kernel
abbrev cX0_init : ByteArray := prog_1_method_1_code
def yX0_init : MethodName := ⟨RX0, "<init>", "()V"⟩
theorem dX0_init_0 : decode cX0_init 0 = .ok (.aload_n 0, 1) := by decide +kernel
theorem dX0_init_1 : decode cX0_init 1 = .ok (.invokespecial 1, 3) := by decide +kernel
theorem dX0_init_4 : decode cX0_init 4 = .ok (.aload_n 0, 1) := by decide +kernel
theorem dX0_init_5 : decode cX0_init 5 = .ok (.bipush 64, 2) := by decide +kernel
theorem dX0_init_7 : decode cX0_init 7 = .ok (.newarray .int, 2) := by decide +kernel
theorem dX0_init_9 : decode cX0_init 9 = .ok (.putfield 7, 3) := by decide +kernel
theorem dX0_init_12 : decode cX0_init 12 = .ok (.aload_n 0, 1) := by decide +kernel
theorem dX0_init_13 : decode cX0_init 13 = .ok (.iconst 4, 1) := by decide +kernel
theorem dX0_init_14 : decode cX0_init 14 = .ok (.newarray .int, 2) := by decide +kernel
theorem dX0_init_16 : decode cX0_init 16 = .ok (.putfield 13, 3) := by decide +kernel
theorem dX0_init_19 : decode cX0_init 19 = .ok (.aload_n 0, 1) := by decide +kernel
theorem dX0_init_20 : decode cX0_init 20 = .ok (.iconst 5, 1) := by decide +kernel
theorem dX0_init_21 : decode cX0_init 21 = .ok (.newarray .int, 2) := by decide +kernel
theorem dX0_init_23 : decode cX0_init 23 = .ok (.putfield 16, 3) := by decide +kernel
theorem dX0_init_26 : decode cX0_init 26 = .ok (.aload_n 0, 1) := by decide +kernel
theorem dX0_init_27 : decode cX0_init 27 = .ok (.iconst 5, 1) := by decide +kernel
theorem dX0_init_28 : decode cX0_init 28 = .ok (.newarray .int, 2) := by decide +kernel
theorem dX0_init_30 : decode cX0_init 30 = .ok (.putfield 19, 3) := by decide +kernel
theorem dX0_init_33 : decode cX0_init 33 = .ok (.aload_n 0, 1) := by decide +kernel
theorem dX0_init_34 : decode cX0_init 34 = .ok (.iconst 5, 1) := by decide +kernel
theorem dX0_init_35 : decode cX0_init 35 = .ok (.newarray .int, 2) := by decide +kernel
theorem dX0_init_37 : decode cX0_init 37 = .ok (.putfield 22, 3) := by decide +kernel
theorem dX0_init_40 : decode cX0_init 40 = .ok (.aload_n 0, 1) := by decide +kernel
theorem dX0_init_41 : decode cX0_init 41 = .ok (.iconst 5, 1) := by decide +kernel
theorem dX0_init_42 : decode cX0_init 42 = .ok (.newarray .int, 2) := by decide +kernel
theorem dX0_init_44 : decode cX0_init 44 = .ok (.putfield 25, 3) := by decide +kernel
theorem dX0_init_47 : decode cX0_init 47 = .ok (.aload_n 0, 1) := by decide +kernel
theorem dX0_init_48 : decode cX0_init 48 = .ok (.iconst 4, 1) := by decide +kernel
theorem dX0_init_49 : decode cX0_init 49 = .ok (.newarray .int, 2) := by decide +kernel
theorem dX0_init_51 : decode cX0_init 51 = .ok (.putfield 28, 3) := by decide +kernel
theorem dX0_init_54 : decode cX0_init 54 = .ok (.aload_n 0, 1) := by decide +kernel
theorem dX0_init_55 : decode cX0_init 55 = .ok (.iconst 4, 1) := by decide +kernel
theorem dX0_init_56 : decode cX0_init 56 = .ok (.newarray .int, 2) := by decide +kernel
theorem dX0_init_58 : decode cX0_init 58 = .ok (.putfield 31, 3) := by decide +kernel
theorem dX0_init_61 : decode cX0_init 61 = .ok (.aload_n 0, 1) := by decide +kernel
theorem dX0_init_62 : decode cX0_init 62 = .ok (.bipush 15, 2) := by decide +kernel
theorem dX0_init_64 : decode cX0_init 64 = .ok (.newarray .int, 2) := by decide +kernel
theorem dX0_init_66 : decode cX0_init 66 = .ok (.putfield 34, 3) := by decide +kernel
theorem dX0_init_69 : decode cX0_init 69 = .ok (.aload_n 0, 1) := by decide +kernel
theorem dX0_init_70 : decode cX0_init 70 = .ok (.bipush 15, 2) := by decide +kernel
theorem dX0_init_72 : decode cX0_init 72 = .ok (.newarray .boolean, 2) := by decide +kernel
theorem dX0_init_74 : decode cX0_init 74 = .ok (.putfield 37, 3) := by decide +kernel
theorem dX0_init_77 : decode cX0_init 77 = .ok (.aload_n 0, 1) := by decide +kernel
theorem dX0_init_78 : decode cX0_init 78 = .ok (.iconst 0, 1) := by decide +kernel
theorem dX0_init_79 : decode cX0_init 79 = .ok (.putfield 41, 3) := by decide +kernel
theorem dX0_init_82 : decode cX0_init 82 = .ok (.return_, 1) := by decide +kernel
abbrev cX0_statement : ByteArray := prog_1_method_2_code
def yX0_statement : MethodName := ⟨RX0, "statement", "(IIII)I"⟩
theorem dX0_statement_0 : decode cX0_statement 0 = .ok (.iload_n 1, 1) := by decide +kernel
theorem dX0_statement_1 : decode cX0_statement 1 = .ok (.ifCond .lt 9, 3) := by decide +kernel
theorem dX0_statement_4 : decode cX0_statement 4 = .ok (.iload_n 1, 1) := by decide +kernel
theorem dX0_statement_5 : decode cX0_statement 5 = .ok (.bipush 7, 2) := by decide +kernel
theorem dX0_statement_7 : decode cX0_statement 7 = .ok (.if_icmp .le 5, 3) := by decide +kernel
theorem dX0_statement_10 : decode cX0_statement 10 = .ok (.iconst (-1), 1) := by decide +kernel
theorem dX0_statement_11 : decode cX0_statement 11 = .ok (.ireturn, 1) := by decide +kernel
theorem dX0_statement_12 : decode cX0_statement 12 = .ok (.iload_n 2, 1) := by decide +kernel
theorem dX0_statement_13 : decode cX0_statement 13 = .ok (.invokestatic 45, 3) := by decide +kernel
theorem dX0_statement_16 : decode cX0_statement 16 = .ok (.ifCond .ne 6, 3) := by decide +kernel
theorem dX0_statement_19 : decode cX0_statement 19 = .ok (.bipush (-2), 2) := by decide +kernel
theorem dX0_statement_21 : decode cX0_statement 21 = .ok (.ireturn, 1) := by decide +kernel
theorem dX0_statement_22 : decode cX0_statement 22 = .ok (.iload_n 3, 1) := by decide +kernel
theorem dX0_statement_23 : decode cX0_statement 23 = .ok (.invokestatic 45, 3) := by decide +kernel
theorem dX0_statement_26 : decode cX0_statement 26 = .ok (.ifCond .ne 6, 3) := by decide +kernel
theorem dX0_statement_29 : decode cX0_statement 29 = .ok (.bipush (-3), 2) := by decide +kernel
theorem dX0_statement_31 : decode cX0_statement 31 = .ok (.ireturn, 1) := by decide +kernel
theorem dX0_statement_32 : decode cX0_statement 32 = .ok (.iload_n 1, 1) := by decide +kernel
theorem dX0_statement_33 : decode cX0_statement 33 = .ok (.invokestatic 49, 3) := by decide +kernel
theorem dX0_statement_36 : decode cX0_statement 36 = .ok (.ifCond .eq 14, 3) := by decide +kernel
theorem dX0_statement_39 : decode cX0_statement 39 = .ok (.iload 4, 2) := by decide +kernel
theorem dX0_statement_41 : decode cX0_statement 41 = .ok (.invokestatic 45, 3) := by decide +kernel
theorem dX0_statement_44 : decode cX0_statement 44 = .ok (.ifCond .ne 6, 3) := by decide +kernel
theorem dX0_statement_47 : decode cX0_statement 47 = .ok (.bipush (-4), 2) := by decide +kernel
theorem dX0_statement_49 : decode cX0_statement 49 = .ok (.ireturn, 1) := by decide +kernel
theorem dX0_statement_50 : decode cX0_statement 50 = .ok (.aload_n 0, 1) := by decide +kernel
theorem dX0_statement_51 : decode cX0_statement 51 = .ok (.getfield 41, 3) := by decide +kernel
theorem dX0_statement_54 : decode cX0_statement 54 = .ok (.iconst 5, 1) := by decide +kernel
theorem dX0_statement_55 : decode cX0_statement 55 = .ok (.if_icmp .ne 6, 3) := by decide +kernel
theorem dX0_statement_58 : decode cX0_statement 58 = .ok (.bipush (-5), 2) := by decide +kernel
theorem dX0_statement_60 : decode cX0_statement 60 = .ok (.ireturn, 1) := by decide +kernel
theorem dX0_statement_61 : decode cX0_statement 61 = .ok (.aload_n 0, 1) := by decide +kernel
theorem dX0_statement_62 : decode cX0_statement 62 = .ok (.getfield 16, 3) := by decide +kernel
theorem dX0_statement_65 : decode cX0_statement 65 = .ok (.aload_n 0, 1) := by decide +kernel
theorem dX0_statement_66 : decode cX0_statement 66 = .ok (.getfield 41, 3) := by decide +kernel
theorem dX0_statement_69 : decode cX0_statement 69 = .ok (.iload_n 1, 1) := by decide +kernel
theorem dX0_statement_70 : decode cX0_statement 70 = .ok (.iastore, 1) := by decide +kernel
theorem dX0_statement_71 : decode cX0_statement 71 = .ok (.aload_n 0, 1) := by decide +kernel
theorem dX0_statement_72 : decode cX0_statement 72 = .ok (.getfield 19, 3) := by decide +kernel
theorem dX0_statement_75 : decode cX0_statement 75 = .ok (.aload_n 0, 1) := by decide +kernel
theorem dX0_statement_76 : decode cX0_statement 76 = .ok (.getfield 41, 3) := by decide +kernel
theorem dX0_statement_79 : decode cX0_statement 79 = .ok (.iload_n 2, 1) := by decide +kernel
theorem dX0_statement_80 : decode cX0_statement 80 = .ok (.iastore, 1) := by decide +kernel
theorem dX0_statement_81 : decode cX0_statement 81 = .ok (.aload_n 0, 1) := by decide +kernel
theorem dX0_statement_82 : decode cX0_statement 82 = .ok (.getfield 22, 3) := by decide +kernel
theorem dX0_statement_85 : decode cX0_statement 85 = .ok (.aload_n 0, 1) := by decide +kernel
theorem dX0_statement_86 : decode cX0_statement 86 = .ok (.getfield 41, 3) := by decide +kernel
theorem dX0_statement_89 : decode cX0_statement 89 = .ok (.iload_n 3, 1) := by decide +kernel
theorem dX0_statement_90 : decode cX0_statement 90 = .ok (.iastore, 1) := by decide +kernel
theorem dX0_statement_91 : decode cX0_statement 91 = .ok (.aload_n 0, 1) := by decide +kernel
theorem dX0_statement_92 : decode cX0_statement 92 = .ok (.getfield 25, 3) := by decide +kernel
theorem dX0_statement_95 : decode cX0_statement 95 = .ok (.aload_n 0, 1) := by decide +kernel
theorem dX0_statement_96 : decode cX0_statement 96 = .ok (.getfield 41, 3) := by decide +kernel
theorem dX0_statement_99 : decode cX0_statement 99 = .ok (.iload 4, 2) := by decide +kernel
theorem dX0_statement_101 : decode cX0_statement 101 = .ok (.iastore, 1) := by decide +kernel
theorem dX0_statement_102 : decode cX0_statement 102 = .ok (.aload_n 0, 1) := by decide +kernel
theorem dX0_statement_103 : decode cX0_statement 103 = .ok (.dup, 1) := by decide +kernel
theorem dX0_statement_104 : decode cX0_statement 104 = .ok (.getfield 41, 3) := by decide +kernel
theorem dX0_statement_107 : decode cX0_statement 107 = .ok (.iconst 1, 1) := by decide +kernel
theorem dX0_statement_108 : decode cX0_statement 108 = .ok (.iadd, 1) := by decide +kernel
theorem dX0_statement_109 : decode cX0_statement 109 = .ok (.putfield 41, 3) := by decide +kernel
theorem dX0_statement_112 : decode cX0_statement 112 = .ok (.aload_n 0, 1) := by decide +kernel
theorem dX0_statement_113 : decode cX0_statement 113 = .ok (.getfield 41, 3) := by decide +kernel
theorem dX0_statement_116 : decode cX0_statement 116 = .ok (.ireturn, 1) := by decide +kernel
abbrev cX0_isRef : ByteArray := prog_1_method_17_code
def yX0_isRef : MethodName := ⟨RX0, "isRef", "(I)Z"⟩
theorem dX0_isRef_0 : decode cX0_isRef 0 = .ok (.iload_n 0, 1) := by decide +kernel
theorem dX0_isRef_1 : decode cX0_isRef 1 = .ok (.ifCond .lt 25, 3) := by decide +kernel
theorem dX0_isRef_4 : decode cX0_isRef 4 = .ok (.iload_n 0, 1) := by decide +kernel
theorem dX0_isRef_5 : decode cX0_isRef 5 = .ok (.sipush 512, 3) := by decide +kernel
theorem dX0_isRef_8 : decode cX0_isRef 8 = .ok (.if_icmp .ge 18, 3) := by decide +kernel
theorem dX0_isRef_11 : decode cX0_isRef 11 = .ok (.iload_n 0, 1) := by decide +kernel
theorem dX0_isRef_12 : decode cX0_isRef 12 = .ok (.iconst 4, 1) := by decide +kernel
theorem dX0_isRef_13 : decode cX0_isRef 13 = .ok (.ishr, 1) := by decide +kernel
theorem dX0_isRef_14 : decode cX0_isRef 14 = .ok (.bipush 7, 2) := by decide +kernel
theorem dX0_isRef_16 : decode cX0_isRef 16 = .ok (.iand, 1) := by decide +kernel
theorem dX0_isRef_17 : decode cX0_isRef 17 = .ok (.bipush 7, 2) := by decide +kernel
theorem dX0_isRef_19 : decode cX0_isRef 19 = .ok (.if_icmp .eq 7, 3) := by decide +kernel
theorem dX0_isRef_22 : decode cX0_isRef 22 = .ok (.iconst 1, 1) := by decide +kernel
theorem dX0_isRef_23 : decode cX0_isRef 23 = .ok (.goto 4, 3) := by decide +kernel
theorem dX0_isRef_26 : decode cX0_isRef 26 = .ok (.iconst 0, 1) := by decide +kernel
theorem dX0_isRef_27 : decode cX0_isRef 27 = .ok (.ireturn, 1) := by decide +kernel
abbrev cX0_takesTwo : ByteArray := prog_1_method_18_code
def yX0_takesTwo : MethodName := ⟨RX0, "takesTwo", "(I)Z"⟩
theorem dX0_takesTwo_0 : decode cX0_takesTwo 0 = .ok (.iload_n 0, 1) := by decide +kernel
theorem dX0_takesTwo_1 : decode cX0_takesTwo 1 = .ok (.iconst 1, 1) := by decide +kernel
theorem dX0_takesTwo_2 : decode cX0_takesTwo 2 = .ok (.if_icmp .lt 12, 3) := by decide +kernel
theorem dX0_takesTwo_5 : decode cX0_takesTwo 5 = .ok (.iload_n 0, 1) := by decide +kernel
theorem dX0_takesTwo_6 : decode cX0_takesTwo 6 = .ok (.iconst 4, 1) := by decide +kernel
theorem dX0_takesTwo_7 : decode cX0_takesTwo 7 = .ok (.if_icmp .gt 7, 3) := by decide +kernel
theorem dX0_takesTwo_10 : decode cX0_takesTwo 10 = .ok (.iconst 1, 1) := by decide +kernel
theorem dX0_takesTwo_11 : decode cX0_takesTwo 11 = .ok (.goto 4, 3) := by decide +kernel
theorem dX0_takesTwo_14 : decode cX0_takesTwo 14 = .ok (.iconst 0, 1) := by decide +kernel
theorem dX0_takesTwo_15 : decode cX0_takesTwo 15 = .ok (.ireturn, 1) := by decide +kernel
abbrev cX0_retract : ByteArray := prog_1_method_3_code
def yX0_retract : MethodName := ⟨RX0, "retract", "()I"⟩
theorem dX0_retract_0 : decode cX0_retract 0 = .ok (.aload_n 0, 1) := by decide +kernel
theorem dX0_retract_1 : decode cX0_retract 1 = .ok (.getfield 41, 3) := by decide +kernel
theorem dX0_retract_4 : decode cX0_retract 4 = .ok (.ifCond .ne 5, 3) := by decide +kernel
theorem dX0_retract_7 : decode cX0_retract 7 = .ok (.iconst (-1), 1) := by decide +kernel
theorem dX0_retract_8 : decode cX0_retract 8 = .ok (.ireturn, 1) := by decide +kernel
theorem dX0_retract_9 : decode cX0_retract 9 = .ok (.aload_n 0, 1) := by decide +kernel
theorem dX0_retract_10 : decode cX0_retract 10 = .ok (.dup, 1) := by decide +kernel
theorem dX0_retract_11 : decode cX0_retract 11 = .ok (.getfield 41, 3) := by decide +kernel
theorem dX0_retract_14 : decode cX0_retract 14 = .ok (.iconst 1, 1) := by decide +kernel
theorem dX0_retract_15 : decode cX0_retract 15 = .ok (.isub, 1) := by decide +kernel
theorem dX0_retract_16 : decode cX0_retract 16 = .ok (.putfield 41, 3) := by decide +kernel
theorem dX0_retract_19 : decode cX0_retract 19 = .ok (.aload_n 0, 1) := by decide +kernel
theorem dX0_retract_20 : decode cX0_retract 20 = .ok (.getfield 41, 3) := by decide +kernel
theorem dX0_retract_23 : decode cX0_retract 23 = .ok (.ireturn, 1) := by decide +kernel
abbrev cX0_clear : ByteArray := prog_1_method_4_code
def yX0_clear : MethodName := ⟨RX0, "clear", "()I"⟩
theorem dX0_clear_0 : decode cX0_clear 0 = .ok (.aload_n 0, 1) := by decide +kernel
theorem dX0_clear_1 : decode cX0_clear 1 = .ok (.getfield 41, 3) := by decide +kernel
theorem dX0_clear_4 : decode cX0_clear 4 = .ok (.istore_n 1, 1) := by decide +kernel
theorem dX0_clear_5 : decode cX0_clear 5 = .ok (.aload_n 0, 1) := by decide +kernel
theorem dX0_clear_6 : decode cX0_clear 6 = .ok (.iconst 0, 1) := by decide +kernel
theorem dX0_clear_7 : decode cX0_clear 7 = .ok (.putfield 41, 3) := by decide +kernel
theorem dX0_clear_10 : decode cX0_clear 10 = .ok (.iload_n 1, 1) := by decide +kernel
theorem dX0_clear_11 : decode cX0_clear 11 = .ok (.ireturn, 1) := by decide +kernel
abbrev cX0_statements : ByteArray := prog_1_method_5_code
def yX0_statements : MethodName := ⟨RX0, "statements", "()I"⟩
theorem dX0_statements_0 : decode cX0_statements 0 = .ok (.aload_n 0, 1) := by decide +kernel
theorem dX0_statements_1 : decode cX0_statements 1 = .ok (.getfield 41, 3) := by decide +kernel
theorem dX0_statements_4 : decode cX0_statements 4 = .ok (.ireturn, 1) := by decide +kernel
abbrev cX0_base : ByteArray := prog_1_method_6_code
def yX0_base : MethodName := ⟨RX0, "base", "(II)I"⟩
theorem dX0_base_0 : decode cX0_base 0 = .ok (.iload_n 1, 1) := by decide +kernel
theorem dX0_base_1 : decode cX0_base 1 = .ok (.ifCond .lt 8, 3) := by decide +kernel
theorem dX0_base_4 : decode cX0_base 4 = .ok (.iload_n 1, 1) := by decide +kernel
theorem dX0_base_5 : decode cX0_base 5 = .ok (.iconst 3, 1) := by decide +kernel
theorem dX0_base_6 : decode cX0_base 6 = .ok (.if_icmp .le 5, 3) := by decide +kernel
theorem dX0_base_9 : decode cX0_base 9 = .ok (.iconst (-1), 1) := by decide +kernel
theorem dX0_base_10 : decode cX0_base 10 = .ok (.ireturn, 1) := by decide +kernel
theorem dX0_base_11 : decode cX0_base 11 = .ok (.iload_n 2, 1) := by decide +kernel
theorem dX0_base_12 : decode cX0_base 12 = .ok (.ifCond .lt 9, 3) := by decide +kernel
theorem dX0_base_15 : decode cX0_base 15 = .ok (.iload_n 2, 1) := by decide +kernel
theorem dX0_base_16 : decode cX0_base 16 = .ok (.bipush 64, 2) := by decide +kernel
theorem dX0_base_18 : decode cX0_base 18 = .ok (.if_icmp .lt 6, 3) := by decide +kernel
theorem dX0_base_21 : decode cX0_base 21 = .ok (.bipush (-2), 2) := by decide +kernel
theorem dX0_base_23 : decode cX0_base 23 = .ok (.ireturn, 1) := by decide +kernel
theorem dX0_base_24 : decode cX0_base 24 = .ok (.aload_n 0, 1) := by decide +kernel
theorem dX0_base_25 : decode cX0_base 25 = .ok (.getfield 13, 3) := by decide +kernel
theorem dX0_base_28 : decode cX0_base 28 = .ok (.iload_n 1, 1) := by decide +kernel
theorem dX0_base_29 : decode cX0_base 29 = .ok (.iaload, 1) := by decide +kernel
theorem dX0_base_30 : decode cX0_base 30 = .ok (.istore_n 3, 1) := by decide +kernel
theorem dX0_base_31 : decode cX0_base 31 = .ok (.aload_n 0, 1) := by decide +kernel
theorem dX0_base_32 : decode cX0_base 32 = .ok (.getfield 13, 3) := by decide +kernel
theorem dX0_base_35 : decode cX0_base 35 = .ok (.iload_n 1, 1) := by decide +kernel
theorem dX0_base_36 : decode cX0_base 36 = .ok (.iload_n 2, 1) := by decide +kernel
theorem dX0_base_37 : decode cX0_base 37 = .ok (.iastore, 1) := by decide +kernel
theorem dX0_base_38 : decode cX0_base 38 = .ok (.iload_n 3, 1) := by decide +kernel
theorem dX0_base_39 : decode cX0_base 39 = .ok (.ireturn, 1) := by decide +kernel
abbrev cX0_run : ByteArray := prog_1_method_7_code
def yX0_run : MethodName := ⟨RX0, "run", "(I)I"⟩
theorem dX0_run_0 : decode cX0_run 0 = .ok (.iload_n 1, 1) := by decide +kernel
theorem dX0_run_1 : decode cX0_run 1 = .ok (.ifCond .lt 9, 3) := by decide +kernel
theorem dX0_run_4 : decode cX0_run 4 = .ok (.iload_n 1, 1) := by decide +kernel
theorem dX0_run_5 : decode cX0_run 5 = .ok (.bipush 40, 2) := by decide +kernel
theorem dX0_run_7 : decode cX0_run 7 = .ok (.if_icmp .le 5, 3) := by decide +kernel
theorem dX0_run_10 : decode cX0_run 10 = .ok (.iconst (-1), 1) := by decide +kernel
theorem dX0_run_11 : decode cX0_run 11 = .ok (.ireturn, 1) := by decide +kernel
theorem dX0_run_12 : decode cX0_run 12 = .ok (.iconst 0, 1) := by decide +kernel
theorem dX0_run_13 : decode cX0_run 13 = .ok (.istore_n 2, 1) := by decide +kernel
theorem dX0_run_14 : decode cX0_run 14 = .ok (.iload_n 1, 1) := by decide +kernel
theorem dX0_run_15 : decode cX0_run 15 = .ok (.iconst 4, 1) := by decide +kernel
theorem dX0_run_16 : decode cX0_run 16 = .ok (.if_icmp .lt 46, 3) := by decide +kernel
theorem dX0_run_19 : decode cX0_run 19 = .ok (.aload_n 0, 1) := by decide +kernel
theorem dX0_run_20 : decode cX0_run 20 = .ok (.iload_n 1, 1) := by decide +kernel
theorem dX0_run_21 : decode cX0_run 21 = .ok (.invokevirtual 52, 3) := by decide +kernel
theorem dX0_run_24 : decode cX0_run 24 = .ok (.ifCond .eq 38, 3) := by decide +kernel
theorem dX0_run_27 : decode cX0_run 27 = .ok (.iload_n 2, 1) := by decide +kernel
theorem dX0_run_28 : decode cX0_run 28 = .ok (.iconst 4, 1) := by decide +kernel
theorem dX0_run_29 : decode cX0_run 29 = .ok (.iadd, 1) := by decide +kernel
theorem dX0_run_30 : decode cX0_run 30 = .ok (.iload_n 1, 1) := by decide +kernel
theorem dX0_run_31 : decode cX0_run 31 = .ok (.if_icmp .gt 31, 3) := by decide +kernel
theorem dX0_run_34 : decode cX0_run 34 = .ok (.iconst 0, 1) := by decide +kernel
theorem dX0_run_35 : decode cX0_run 35 = .ok (.istore_n 3, 1) := by decide +kernel
theorem dX0_run_36 : decode cX0_run 36 = .ok (.iload_n 3, 1) := by decide +kernel
theorem dX0_run_37 : decode cX0_run 37 = .ok (.aload_n 0, 1) := by decide +kernel
theorem dX0_run_38 : decode cX0_run 38 = .ok (.getfield 41, 3) := by decide +kernel
theorem dX0_run_41 : decode cX0_run 41 = .ok (.if_icmp .ge 15, 3) := by decide +kernel
theorem dX0_run_44 : decode cX0_run 44 = .ok (.aload_n 0, 1) := by decide +kernel
theorem dX0_run_45 : decode cX0_run 45 = .ok (.iload_n 3, 1) := by decide +kernel
theorem dX0_run_46 : decode cX0_run 46 = .ok (.iload_n 2, 1) := by decide +kernel
theorem dX0_run_47 : decode cX0_run 47 = .ok (.invokevirtual 55, 3) := by decide +kernel
theorem dX0_run_50 : decode cX0_run 50 = .ok (.iinc 3 1, 3) := by decide +kernel
theorem dX0_run_53 : decode cX0_run 53 = .ok (.goto (-17), 3) := by decide +kernel
theorem dX0_run_56 : decode cX0_run 56 = .ok (.iinc 2 4, 3) := by decide +kernel
theorem dX0_run_59 : decode cX0_run 59 = .ok (.goto (-32), 3) := by decide +kernel
theorem dX0_run_62 : decode cX0_run 62 = .ok (.iload_n 2, 1) := by decide +kernel
theorem dX0_run_63 : decode cX0_run 63 = .ok (.iload_n 1, 1) := by decide +kernel
theorem dX0_run_64 : decode cX0_run 64 = .ok (.if_icmp .ge 31, 3) := by decide +kernel
theorem dX0_run_67 : decode cX0_run 67 = .ok (.iconst 0, 1) := by decide +kernel
theorem dX0_run_68 : decode cX0_run 68 = .ok (.istore_n 3, 1) := by decide +kernel
theorem dX0_run_69 : decode cX0_run 69 = .ok (.iload_n 3, 1) := by decide +kernel
theorem dX0_run_70 : decode cX0_run 70 = .ok (.aload_n 0, 1) := by decide +kernel
theorem dX0_run_71 : decode cX0_run 71 = .ok (.getfield 41, 3) := by decide +kernel
theorem dX0_run_74 : decode cX0_run 74 = .ok (.if_icmp .ge 15, 3) := by decide +kernel
theorem dX0_run_77 : decode cX0_run 77 = .ok (.aload_n 0, 1) := by decide +kernel
theorem dX0_run_78 : decode cX0_run 78 = .ok (.iload_n 3, 1) := by decide +kernel
theorem dX0_run_79 : decode cX0_run 79 = .ok (.iload_n 2, 1) := by decide +kernel
theorem dX0_run_80 : decode cX0_run 80 = .ok (.invokevirtual 59, 3) := by decide +kernel
theorem dX0_run_83 : decode cX0_run 83 = .ok (.iinc 3 1, 3) := by decide +kernel
theorem dX0_run_86 : decode cX0_run 86 = .ok (.goto (-17), 3) := by decide +kernel
theorem dX0_run_89 : decode cX0_run 89 = .ok (.iinc 2 1, 3) := by decide +kernel
theorem dX0_run_92 : decode cX0_run 92 = .ok (.goto (-30), 3) := by decide +kernel
theorem dX0_run_95 : decode cX0_run 95 = .ok (.aload_n 0, 1) := by decide +kernel
theorem dX0_run_96 : decode cX0_run 96 = .ok (.getfield 62, 3) := by decide +kernel
theorem dX0_run_99 : decode cX0_run 99 = .ok (.ireturn, 1) := by decide +kernel
abbrev cX0_isSafe : ByteArray := prog_1_method_26_code
def yX0_isSafe : MethodName := ⟨RX0, "isSafe", "(I)Z"⟩
theorem dX0_isSafe_0 : decode cX0_isSafe 0 = .ok (.aload_n 0, 1) := by decide +kernel
theorem dX0_isSafe_1 : decode cX0_isSafe 1 = .ok (.invokevirtual 99, 3) := by decide +kernel
theorem dX0_isSafe_4 : decode cX0_isSafe 4 = .ok (.iconst 0, 1) := by decide +kernel
theorem dX0_isSafe_5 : decode cX0_isSafe 5 = .ok (.istore_n 2, 1) := by decide +kernel
theorem dX0_isSafe_6 : decode cX0_isSafe 6 = .ok (.iload_n 2, 1) := by decide +kernel
theorem dX0_isSafe_7 : decode cX0_isSafe 7 = .ok (.aload_n 0, 1) := by decide +kernel
theorem dX0_isSafe_8 : decode cX0_isSafe 8 = .ok (.getfield 92, 3) := by decide +kernel
theorem dX0_isSafe_11 : decode cX0_isSafe 11 = .ok (.if_icmp .ge 61, 3) := by decide +kernel
theorem dX0_isSafe_14 : decode cX0_isSafe 14 = .ok (.aload_n 0, 1) := by decide +kernel
theorem dX0_isSafe_15 : decode cX0_isSafe 15 = .ok (.aload_n 0, 1) := by decide +kernel
theorem dX0_isSafe_16 : decode cX0_isSafe 16 = .ok (.getfield 34, 3) := by decide +kernel
theorem dX0_isSafe_19 : decode cX0_isSafe 19 = .ok (.iload_n 2, 1) := by decide +kernel
theorem dX0_isSafe_20 : decode cX0_isSafe 20 = .ok (.iaload, 1) := by decide +kernel
theorem dX0_isSafe_21 : decode cX0_isSafe 21 = .ok (.invokevirtual 77, 3) := by decide +kernel
theorem dX0_isSafe_24 : decode cX0_isSafe 24 = .ok (.istore_n 3, 1) := by decide +kernel
theorem dX0_isSafe_25 : decode cX0_isSafe 25 = .ok (.iload_n 3, 1) := by decide +kernel
theorem dX0_isSafe_26 : decode cX0_isSafe 26 = .ok (.aload_n 0, 1) := by decide +kernel
theorem dX0_isSafe_27 : decode cX0_isSafe 27 = .ok (.getfield 34, 3) := by decide +kernel
theorem dX0_isSafe_30 : decode cX0_isSafe 30 = .ok (.iload_n 2, 1) := by decide +kernel
theorem dX0_isSafe_31 : decode cX0_isSafe 31 = .ok (.iaload, 1) := by decide +kernel
theorem dX0_isSafe_32 : decode cX0_isSafe 32 = .ok (.invokestatic 81, 3) := by decide +kernel
theorem dX0_isSafe_35 : decode cX0_isSafe 35 = .ok (.iload_n 1, 1) := by decide +kernel
theorem dX0_isSafe_36 : decode cX0_isSafe 36 = .ok (.iconst 1, 1) := by decide +kernel
theorem dX0_isSafe_37 : decode cX0_isSafe 37 = .ok (.isub, 1) := by decide +kernel
theorem dX0_isSafe_38 : decode cX0_isSafe 38 = .ok (.imul, 1) := by decide +kernel
theorem dX0_isSafe_39 : decode cX0_isSafe 39 = .ok (.iadd, 1) := by decide +kernel
theorem dX0_isSafe_40 : decode cX0_isSafe 40 = .ok (.istore 4, 2) := by decide +kernel
theorem dX0_isSafe_42 : decode cX0_isSafe 42 = .ok (.iload_n 3, 1) := by decide +kernel
theorem dX0_isSafe_43 : decode cX0_isSafe 43 = .ok (.ifCond .lt 21, 3) := by decide +kernel
theorem dX0_isSafe_46 : decode cX0_isSafe 46 = .ok (.iload_n 3, 1) := by decide +kernel
theorem dX0_isSafe_47 : decode cX0_isSafe 47 = .ok (.bipush 64, 2) := by decide +kernel
theorem dX0_isSafe_49 : decode cX0_isSafe 49 = .ok (.if_icmp .ge 15, 3) := by decide +kernel
theorem dX0_isSafe_52 : decode cX0_isSafe 52 = .ok (.iload 4, 2) := by decide +kernel
theorem dX0_isSafe_54 : decode cX0_isSafe 54 = .ok (.ifCond .lt 10, 3) := by decide +kernel
theorem dX0_isSafe_57 : decode cX0_isSafe 57 = .ok (.iload 4, 2) := by decide +kernel
theorem dX0_isSafe_59 : decode cX0_isSafe 59 = .ok (.bipush 64, 2) := by decide +kernel
theorem dX0_isSafe_61 : decode cX0_isSafe 61 = .ok (.if_icmp .lt 5, 3) := by decide +kernel
theorem dX0_isSafe_64 : decode cX0_isSafe 64 = .ok (.iconst 0, 1) := by decide +kernel
theorem dX0_isSafe_65 : decode cX0_isSafe 65 = .ok (.ireturn, 1) := by decide +kernel
theorem dX0_isSafe_66 : decode cX0_isSafe 66 = .ok (.iinc 2 1, 3) := by decide +kernel
theorem dX0_isSafe_69 : decode cX0_isSafe 69 = .ok (.goto (-63), 3) := by decide +kernel
theorem dX0_isSafe_72 : decode cX0_isSafe 72 = .ok (.iconst 0, 1) := by decide +kernel
theorem dX0_isSafe_73 : decode cX0_isSafe 73 = .ok (.istore_n 2, 1) := by decide +kernel
theorem dX0_isSafe_74 : decode cX0_isSafe 74 = .ok (.iload_n 2, 1) := by decide +kernel
theorem dX0_isSafe_75 : decode cX0_isSafe 75 = .ok (.aload_n 0, 1) := by decide +kernel
theorem dX0_isSafe_76 : decode cX0_isSafe 76 = .ok (.getfield 92, 3) := by decide +kernel
theorem dX0_isSafe_79 : decode cX0_isSafe 79 = .ok (.if_icmp .ge 61, 3) := by decide +kernel
theorem dX0_isSafe_82 : decode cX0_isSafe 82 = .ok (.iconst 0, 1) := by decide +kernel
theorem dX0_isSafe_83 : decode cX0_isSafe 83 = .ok (.istore_n 3, 1) := by decide +kernel
theorem dX0_isSafe_84 : decode cX0_isSafe 84 = .ok (.iload_n 3, 1) := by decide +kernel
theorem dX0_isSafe_85 : decode cX0_isSafe 85 = .ok (.aload_n 0, 1) := by decide +kernel
theorem dX0_isSafe_86 : decode cX0_isSafe 86 = .ok (.getfield 92, 3) := by decide +kernel
theorem dX0_isSafe_89 : decode cX0_isSafe 89 = .ok (.if_icmp .ge 45, 3) := by decide +kernel
theorem dX0_isSafe_92 : decode cX0_isSafe 92 = .ok (.iload_n 2, 1) := by decide +kernel
theorem dX0_isSafe_93 : decode cX0_isSafe 93 = .ok (.iload_n 3, 1) := by decide +kernel
theorem dX0_isSafe_94 : decode cX0_isSafe 94 = .ok (.if_icmp .eq 34, 3) := by decide +kernel
theorem dX0_isSafe_97 : decode cX0_isSafe 97 = .ok (.aload_n 0, 1) := by decide +kernel
theorem dX0_isSafe_98 : decode cX0_isSafe 98 = .ok (.getfield 37, 3) := by decide +kernel
theorem dX0_isSafe_101 : decode cX0_isSafe 101 = .ok (.iload_n 2, 1) := by decide +kernel
theorem dX0_isSafe_102 : decode cX0_isSafe 102 = .ok (.baload, 1) := by decide +kernel
theorem dX0_isSafe_103 : decode cX0_isSafe 103 = .ok (.ifCond .eq 25, 3) := by decide +kernel
theorem dX0_isSafe_106 : decode cX0_isSafe 106 = .ok (.aload_n 0, 1) := by decide +kernel
theorem dX0_isSafe_107 : decode cX0_isSafe 107 = .ok (.aload_n 0, 1) := by decide +kernel
theorem dX0_isSafe_108 : decode cX0_isSafe 108 = .ok (.getfield 34, 3) := by decide +kernel
theorem dX0_isSafe_111 : decode cX0_isSafe 111 = .ok (.iload_n 2, 1) := by decide +kernel
theorem dX0_isSafe_112 : decode cX0_isSafe 112 = .ok (.iaload, 1) := by decide +kernel
theorem dX0_isSafe_113 : decode cX0_isSafe 113 = .ok (.aload_n 0, 1) := by decide +kernel
theorem dX0_isSafe_114 : decode cX0_isSafe 114 = .ok (.getfield 34, 3) := by decide +kernel
theorem dX0_isSafe_117 : decode cX0_isSafe 117 = .ok (.iload_n 3, 1) := by decide +kernel
theorem dX0_isSafe_118 : decode cX0_isSafe 118 = .ok (.iaload, 1) := by decide +kernel
theorem dX0_isSafe_119 : decode cX0_isSafe 119 = .ok (.iload_n 1, 1) := by decide +kernel
theorem dX0_isSafe_120 : decode cX0_isSafe 120 = .ok (.invokevirtual 102, 3) := by decide +kernel
theorem dX0_isSafe_123 : decode cX0_isSafe 123 = .ok (.ifCond .eq 5, 3) := by decide +kernel
theorem dX0_isSafe_126 : decode cX0_isSafe 126 = .ok (.iconst 0, 1) := by decide +kernel
theorem dX0_isSafe_127 : decode cX0_isSafe 127 = .ok (.ireturn, 1) := by decide +kernel
theorem dX0_isSafe_128 : decode cX0_isSafe 128 = .ok (.iinc 3 1, 3) := by decide +kernel
theorem dX0_isSafe_131 : decode cX0_isSafe 131 = .ok (.goto (-47), 3) := by decide +kernel
theorem dX0_isSafe_134 : decode cX0_isSafe 134 = .ok (.iinc 2 1, 3) := by decide +kernel
theorem dX0_isSafe_137 : decode cX0_isSafe 137 = .ok (.goto (-63), 3) := by decide +kernel
theorem dX0_isSafe_140 : decode cX0_isSafe 140 = .ok (.iconst 1, 1) := by decide +kernel
theorem dX0_isSafe_141 : decode cX0_isSafe 141 = .ok (.ireturn, 1) := by decide +kernel
abbrev cX0_listUses : ByteArray := prog_1_method_24_code
def yX0_listUses : MethodName := ⟨RX0, "listUses", "()V"⟩
theorem dX0_listUses_0 : decode cX0_listUses 0 = .ok (.aload_n 0, 1) := by decide +kernel
theorem dX0_listUses_1 : decode cX0_listUses 1 = .ok (.iconst 0, 1) := by decide +kernel
theorem dX0_listUses_2 : decode cX0_listUses 2 = .ok (.putfield 92, 3) := by decide +kernel
theorem dX0_listUses_5 : decode cX0_listUses 5 = .ok (.iconst 0, 1) := by decide +kernel
theorem dX0_listUses_6 : decode cX0_listUses 6 = .ok (.istore_n 1, 1) := by decide +kernel
theorem dX0_listUses_7 : decode cX0_listUses 7 = .ok (.iload_n 1, 1) := by decide +kernel
theorem dX0_listUses_8 : decode cX0_listUses 8 = .ok (.aload_n 0, 1) := by decide +kernel
theorem dX0_listUses_9 : decode cX0_listUses 9 = .ok (.getfield 41, 3) := by decide +kernel
theorem dX0_listUses_12 : decode cX0_listUses 12 = .ok (.if_icmp .ge 76, 3) := by decide +kernel
theorem dX0_listUses_15 : decode cX0_listUses 15 = .ok (.aload_n 0, 1) := by decide +kernel
theorem dX0_listUses_16 : decode cX0_listUses 16 = .ok (.getfield 16, 3) := by decide +kernel
theorem dX0_listUses_19 : decode cX0_listUses 19 = .ok (.iload_n 1, 1) := by decide +kernel
theorem dX0_listUses_20 : decode cX0_listUses 20 = .ok (.iaload, 1) := by decide +kernel
theorem dX0_listUses_21 : decode cX0_listUses 21 = .ok (.bipush 6, 2) := by decide +kernel
theorem dX0_listUses_23 : decode cX0_listUses 23 = .ok (.if_icmp .eq 14, 3) := by decide +kernel
theorem dX0_listUses_26 : decode cX0_listUses 26 = .ok (.aload_n 0, 1) := by decide +kernel
theorem dX0_listUses_27 : decode cX0_listUses 27 = .ok (.aload_n 0, 1) := by decide +kernel
theorem dX0_listUses_28 : decode cX0_listUses 28 = .ok (.getfield 19, 3) := by decide +kernel
theorem dX0_listUses_31 : decode cX0_listUses 31 = .ok (.iload_n 1, 1) := by decide +kernel
theorem dX0_listUses_32 : decode cX0_listUses 32 = .ok (.iaload, 1) := by decide +kernel
theorem dX0_listUses_33 : decode cX0_listUses 33 = .ok (.iconst 1, 1) := by decide +kernel
theorem dX0_listUses_34 : decode cX0_listUses 34 = .ok (.invokevirtual 95, 3) := by decide +kernel
theorem dX0_listUses_37 : decode cX0_listUses 37 = .ok (.aload_n 0, 1) := by decide +kernel
theorem dX0_listUses_38 : decode cX0_listUses 38 = .ok (.getfield 16, 3) := by decide +kernel
theorem dX0_listUses_41 : decode cX0_listUses 41 = .ok (.iload_n 1, 1) := by decide +kernel
theorem dX0_listUses_42 : decode cX0_listUses 42 = .ok (.iaload, 1) := by decide +kernel
theorem dX0_listUses_43 : decode cX0_listUses 43 = .ok (.bipush 7, 2) := by decide +kernel
theorem dX0_listUses_45 : decode cX0_listUses 45 = .ok (.if_icmp .eq 14, 3) := by decide +kernel
theorem dX0_listUses_48 : decode cX0_listUses 48 = .ok (.aload_n 0, 1) := by decide +kernel
theorem dX0_listUses_49 : decode cX0_listUses 49 = .ok (.aload_n 0, 1) := by decide +kernel
theorem dX0_listUses_50 : decode cX0_listUses 50 = .ok (.getfield 22, 3) := by decide +kernel
theorem dX0_listUses_53 : decode cX0_listUses 53 = .ok (.iload_n 1, 1) := by decide +kernel
theorem dX0_listUses_54 : decode cX0_listUses 54 = .ok (.iaload, 1) := by decide +kernel
theorem dX0_listUses_55 : decode cX0_listUses 55 = .ok (.iconst 0, 1) := by decide +kernel
theorem dX0_listUses_56 : decode cX0_listUses 56 = .ok (.invokevirtual 95, 3) := by decide +kernel
theorem dX0_listUses_59 : decode cX0_listUses 59 = .ok (.aload_n 0, 1) := by decide +kernel
theorem dX0_listUses_60 : decode cX0_listUses 60 = .ok (.getfield 16, 3) := by decide +kernel
theorem dX0_listUses_63 : decode cX0_listUses 63 = .ok (.iload_n 1, 1) := by decide +kernel
theorem dX0_listUses_64 : decode cX0_listUses 64 = .ok (.iaload, 1) := by decide +kernel
theorem dX0_listUses_65 : decode cX0_listUses 65 = .ok (.invokestatic 49, 3) := by decide +kernel
theorem dX0_listUses_68 : decode cX0_listUses 68 = .ok (.ifCond .eq 14, 3) := by decide +kernel
theorem dX0_listUses_71 : decode cX0_listUses 71 = .ok (.aload_n 0, 1) := by decide +kernel
theorem dX0_listUses_72 : decode cX0_listUses 72 = .ok (.aload_n 0, 1) := by decide +kernel
theorem dX0_listUses_73 : decode cX0_listUses 73 = .ok (.getfield 25, 3) := by decide +kernel
theorem dX0_listUses_76 : decode cX0_listUses 76 = .ok (.iload_n 1, 1) := by decide +kernel
theorem dX0_listUses_77 : decode cX0_listUses 77 = .ok (.iaload, 1) := by decide +kernel
theorem dX0_listUses_78 : decode cX0_listUses 78 = .ok (.iconst 0, 1) := by decide +kernel
theorem dX0_listUses_79 : decode cX0_listUses 79 = .ok (.invokevirtual 95, 3) := by decide +kernel
theorem dX0_listUses_82 : decode cX0_listUses 82 = .ok (.iinc 1 1, 3) := by decide +kernel
theorem dX0_listUses_85 : decode cX0_listUses 85 = .ok (.goto (-78), 3) := by decide +kernel
theorem dX0_listUses_88 : decode cX0_listUses 88 = .ok (.return_, 1) := by decide +kernel
abbrev cX0_use : ByteArray := prog_1_method_25_code
def yX0_use : MethodName := ⟨RX0, "use", "(IZ)V"⟩
theorem dX0_use_0 : decode cX0_use 0 = .ok (.aload_n 0, 1) := by decide +kernel
theorem dX0_use_1 : decode cX0_use 1 = .ok (.getfield 34, 3) := by decide +kernel
theorem dX0_use_4 : decode cX0_use 4 = .ok (.aload_n 0, 1) := by decide +kernel
theorem dX0_use_5 : decode cX0_use 5 = .ok (.getfield 92, 3) := by decide +kernel
theorem dX0_use_8 : decode cX0_use 8 = .ok (.iload_n 1, 1) := by decide +kernel
theorem dX0_use_9 : decode cX0_use 9 = .ok (.iastore, 1) := by decide +kernel
theorem dX0_use_10 : decode cX0_use 10 = .ok (.aload_n 0, 1) := by decide +kernel
theorem dX0_use_11 : decode cX0_use 11 = .ok (.getfield 37, 3) := by decide +kernel
theorem dX0_use_14 : decode cX0_use 14 = .ok (.aload_n 0, 1) := by decide +kernel
theorem dX0_use_15 : decode cX0_use 15 = .ok (.getfield 92, 3) := by decide +kernel
theorem dX0_use_18 : decode cX0_use 18 = .ok (.iload_n 2, 1) := by decide +kernel
theorem dX0_use_19 : decode cX0_use 19 = .ok (.bastore, 1) := by decide +kernel
theorem dX0_use_20 : decode cX0_use 20 = .ok (.aload_n 0, 1) := by decide +kernel
theorem dX0_use_21 : decode cX0_use 21 = .ok (.dup, 1) := by decide +kernel
theorem dX0_use_22 : decode cX0_use 22 = .ok (.getfield 92, 3) := by decide +kernel
theorem dX0_use_25 : decode cX0_use 25 = .ok (.iconst 1, 1) := by decide +kernel
theorem dX0_use_26 : decode cX0_use 26 = .ok (.iadd, 1) := by decide +kernel
theorem dX0_use_27 : decode cX0_use 27 = .ok (.putfield 92, 3) := by decide +kernel
theorem dX0_use_30 : decode cX0_use 30 = .ok (.return_, 1) := by decide +kernel
abbrev cX0_startOf : ByteArray := prog_1_method_20_code
def yX0_startOf : MethodName := ⟨RX0, "startOf", "(I)I"⟩
theorem dX0_startOf_0 : decode cX0_startOf 0 = .ok (.aload_n 0, 1) := by decide +kernel
theorem dX0_startOf_1 : decode cX0_startOf 1 = .ok (.getfield 13, 3) := by decide +kernel
theorem dX0_startOf_4 : decode cX0_startOf 4 = .ok (.iload_n 1, 1) := by decide +kernel
theorem dX0_startOf_5 : decode cX0_startOf 5 = .ok (.bipush 7, 2) := by decide +kernel
theorem dX0_startOf_7 : decode cX0_startOf 7 = .ok (.ishr, 1) := by decide +kernel
theorem dX0_startOf_8 : decode cX0_startOf 8 = .ok (.iconst 3, 1) := by decide +kernel
theorem dX0_startOf_9 : decode cX0_startOf 9 = .ok (.iand, 1) := by decide +kernel
theorem dX0_startOf_10 : decode cX0_startOf 10 = .ok (.iaload, 1) := by decide +kernel
theorem dX0_startOf_11 : decode cX0_startOf 11 = .ok (.iload_n 1, 1) := by decide +kernel
theorem dX0_startOf_12 : decode cX0_startOf 12 = .ok (.bipush 15, 2) := by decide +kernel
theorem dX0_startOf_14 : decode cX0_startOf 14 = .ok (.iand, 1) := by decide +kernel
theorem dX0_startOf_15 : decode cX0_startOf 15 = .ok (.iadd, 1) := by decide +kernel
theorem dX0_startOf_16 : decode cX0_startOf 16 = .ok (.ireturn, 1) := by decide +kernel
abbrev cX0_strideOf : ByteArray := prog_1_method_19_code
def yX0_strideOf : MethodName := ⟨RX0, "strideOf", "(I)I"⟩
theorem dX0_strideOf_0 : decode cX0_strideOf 0 = .ok (.iload_n 0, 1) := by decide +kernel
theorem dX0_strideOf_1 : decode cX0_strideOf 1 = .ok (.iconst 4, 1) := by decide +kernel
theorem dX0_strideOf_2 : decode cX0_strideOf 2 = .ok (.ishr, 1) := by decide +kernel
theorem dX0_strideOf_3 : decode cX0_strideOf 3 = .ok (.bipush 7, 2) := by decide +kernel
theorem dX0_strideOf_5 : decode cX0_strideOf 5 = .ok (.iand, 1) := by decide +kernel
theorem dX0_strideOf_6 : decode cX0_strideOf 6 = .ok (.iconst 3, 1) := by decide +kernel
theorem dX0_strideOf_7 : decode cX0_strideOf 7 = .ok (.isub, 1) := by decide +kernel
theorem dX0_strideOf_8 : decode cX0_strideOf 8 = .ok (.ireturn, 1) := by decide +kernel
abbrev cX0_mayClash : ByteArray := prog_1_method_27_code
def yX0_mayClash : MethodName := ⟨RX0, "mayClash", "(III)Z"⟩
theorem dX0_mayClash_0 : decode cX0_mayClash 0 = .ok (.aload_n 0, 1) := by decide +kernel
theorem dX0_mayClash_1 : decode cX0_mayClash 1 = .ok (.iload_n 1, 1) := by decide +kernel
theorem dX0_mayClash_2 : decode cX0_mayClash 2 = .ok (.invokevirtual 77, 3) := by decide +kernel
theorem dX0_mayClash_5 : decode cX0_mayClash 5 = .ok (.istore 4, 2) := by decide +kernel
theorem dX0_mayClash_7 : decode cX0_mayClash 7 = .ok (.aload_n 0, 1) := by decide +kernel
theorem dX0_mayClash_8 : decode cX0_mayClash 8 = .ok (.iload_n 2, 1) := by decide +kernel
theorem dX0_mayClash_9 : decode cX0_mayClash 9 = .ok (.invokevirtual 77, 3) := by decide +kernel
theorem dX0_mayClash_12 : decode cX0_mayClash 12 = .ok (.istore 5, 2) := by decide +kernel
theorem dX0_mayClash_14 : decode cX0_mayClash 14 = .ok (.iload_n 1, 1) := by decide +kernel
theorem dX0_mayClash_15 : decode cX0_mayClash 15 = .ok (.invokestatic 81, 3) := by decide +kernel
theorem dX0_mayClash_18 : decode cX0_mayClash 18 = .ok (.istore 6, 2) := by decide +kernel
theorem dX0_mayClash_20 : decode cX0_mayClash 20 = .ok (.iload_n 2, 1) := by decide +kernel
theorem dX0_mayClash_21 : decode cX0_mayClash 21 = .ok (.invokestatic 81, 3) := by decide +kernel
theorem dX0_mayClash_24 : decode cX0_mayClash 24 = .ok (.istore 7, 2) := by decide +kernel
theorem dX0_mayClash_26 : decode cX0_mayClash 26 = .ok (.iload 4, 2) := by decide +kernel
theorem dX0_mayClash_28 : decode cX0_mayClash 28 = .ok (.iload 5, 2) := by decide +kernel
theorem dX0_mayClash_30 : decode cX0_mayClash 30 = .ok (.if_icmp .ne 21, 3) := by decide +kernel
theorem dX0_mayClash_33 : decode cX0_mayClash 33 = .ok (.iload 6, 2) := by decide +kernel
theorem dX0_mayClash_35 : decode cX0_mayClash 35 = .ok (.iload 7, 2) := by decide +kernel
theorem dX0_mayClash_37 : decode cX0_mayClash 37 = .ok (.if_icmp .ne 14, 3) := by decide +kernel
theorem dX0_mayClash_40 : decode cX0_mayClash 40 = .ok (.iload 6, 2) := by decide +kernel
theorem dX0_mayClash_42 : decode cX0_mayClash 42 = .ok (.ifCond .ne 7, 3) := by decide +kernel
theorem dX0_mayClash_45 : decode cX0_mayClash 45 = .ok (.iconst 1, 1) := by decide +kernel
theorem dX0_mayClash_46 : decode cX0_mayClash 46 = .ok (.goto 4, 3) := by decide +kernel
theorem dX0_mayClash_49 : decode cX0_mayClash 49 = .ok (.iconst 0, 1) := by decide +kernel
theorem dX0_mayClash_50 : decode cX0_mayClash 50 = .ok (.ireturn, 1) := by decide +kernel
theorem dX0_mayClash_51 : decode cX0_mayClash 51 = .ok (.iload 4, 2) := by decide +kernel
theorem dX0_mayClash_53 : decode cX0_mayClash 53 = .ok (.iload 6, 2) := by decide +kernel
theorem dX0_mayClash_55 : decode cX0_mayClash 55 = .ok (.iload_n 3, 1) := by decide +kernel
theorem dX0_mayClash_56 : decode cX0_mayClash 56 = .ok (.iconst 1, 1) := by decide +kernel
theorem dX0_mayClash_57 : decode cX0_mayClash 57 = .ok (.isub, 1) := by decide +kernel
theorem dX0_mayClash_58 : decode cX0_mayClash 58 = .ok (.imul, 1) := by decide +kernel
theorem dX0_mayClash_59 : decode cX0_mayClash 59 = .ok (.iadd, 1) := by decide +kernel
theorem dX0_mayClash_60 : decode cX0_mayClash 60 = .ok (.istore 8, 2) := by decide +kernel
theorem dX0_mayClash_62 : decode cX0_mayClash 62 = .ok (.iload 5, 2) := by decide +kernel
theorem dX0_mayClash_64 : decode cX0_mayClash 64 = .ok (.iload 7, 2) := by decide +kernel
theorem dX0_mayClash_66 : decode cX0_mayClash 66 = .ok (.iload_n 3, 1) := by decide +kernel
theorem dX0_mayClash_67 : decode cX0_mayClash 67 = .ok (.iconst 1, 1) := by decide +kernel
theorem dX0_mayClash_68 : decode cX0_mayClash 68 = .ok (.isub, 1) := by decide +kernel
theorem dX0_mayClash_69 : decode cX0_mayClash 69 = .ok (.imul, 1) := by decide +kernel
theorem dX0_mayClash_70 : decode cX0_mayClash 70 = .ok (.iadd, 1) := by decide +kernel
theorem dX0_mayClash_71 : decode cX0_mayClash 71 = .ok (.istore 9, 2) := by decide +kernel
theorem dX0_mayClash_73 : decode cX0_mayClash 73 = .ok (.iload 4, 2) := by decide +kernel
theorem dX0_mayClash_75 : decode cX0_mayClash 75 = .ok (.iload 8, 2) := by decide +kernel
theorem dX0_mayClash_77 : decode cX0_mayClash 77 = .ok (.if_icmp .ge 8, 3) := by decide +kernel
theorem dX0_mayClash_80 : decode cX0_mayClash 80 = .ok (.iload 4, 2) := by decide +kernel
theorem dX0_mayClash_82 : decode cX0_mayClash 82 = .ok (.goto 5, 3) := by decide +kernel
theorem dX0_mayClash_85 : decode cX0_mayClash 85 = .ok (.iload 8, 2) := by decide +kernel
theorem dX0_mayClash_87 : decode cX0_mayClash 87 = .ok (.istore 10, 2) := by decide +kernel
theorem dX0_mayClash_89 : decode cX0_mayClash 89 = .ok (.iload 4, 2) := by decide +kernel
theorem dX0_mayClash_91 : decode cX0_mayClash 91 = .ok (.iload 8, 2) := by decide +kernel
theorem dX0_mayClash_93 : decode cX0_mayClash 93 = .ok (.if_icmp .ge 8, 3) := by decide +kernel
theorem dX0_mayClash_96 : decode cX0_mayClash 96 = .ok (.iload 8, 2) := by decide +kernel
theorem dX0_mayClash_98 : decode cX0_mayClash 98 = .ok (.goto 5, 3) := by decide +kernel
theorem dX0_mayClash_101 : decode cX0_mayClash 101 = .ok (.iload 4, 2) := by decide +kernel
theorem dX0_mayClash_103 : decode cX0_mayClash 103 = .ok (.istore 11, 2) := by decide +kernel
theorem dX0_mayClash_105 : decode cX0_mayClash 105 = .ok (.iload 5, 2) := by decide +kernel
theorem dX0_mayClash_107 : decode cX0_mayClash 107 = .ok (.iload 9, 2) := by decide +kernel
theorem dX0_mayClash_109 : decode cX0_mayClash 109 = .ok (.if_icmp .ge 8, 3) := by decide +kernel
theorem dX0_mayClash_112 : decode cX0_mayClash 112 = .ok (.iload 5, 2) := by decide +kernel
theorem dX0_mayClash_114 : decode cX0_mayClash 114 = .ok (.goto 5, 3) := by decide +kernel
theorem dX0_mayClash_117 : decode cX0_mayClash 117 = .ok (.iload 9, 2) := by decide +kernel
theorem dX0_mayClash_119 : decode cX0_mayClash 119 = .ok (.istore 12, 2) := by decide +kernel
theorem dX0_mayClash_121 : decode cX0_mayClash 121 = .ok (.iload 5, 2) := by decide +kernel
theorem dX0_mayClash_123 : decode cX0_mayClash 123 = .ok (.iload 9, 2) := by decide +kernel
theorem dX0_mayClash_125 : decode cX0_mayClash 125 = .ok (.if_icmp .ge 8, 3) := by decide +kernel
theorem dX0_mayClash_128 : decode cX0_mayClash 128 = .ok (.iload 9, 2) := by decide +kernel
theorem dX0_mayClash_130 : decode cX0_mayClash 130 = .ok (.goto 5, 3) := by decide +kernel
theorem dX0_mayClash_133 : decode cX0_mayClash 133 = .ok (.iload 5, 2) := by decide +kernel
theorem dX0_mayClash_135 : decode cX0_mayClash 135 = .ok (.istore 13, 2) := by decide +kernel
theorem dX0_mayClash_137 : decode cX0_mayClash 137 = .ok (.iload 11, 2) := by decide +kernel
theorem dX0_mayClash_139 : decode cX0_mayClash 139 = .ok (.iload 12, 2) := by decide +kernel
theorem dX0_mayClash_141 : decode cX0_mayClash 141 = .ok (.if_icmp .lt 10, 3) := by decide +kernel
theorem dX0_mayClash_144 : decode cX0_mayClash 144 = .ok (.iload 13, 2) := by decide +kernel
theorem dX0_mayClash_146 : decode cX0_mayClash 146 = .ok (.iload 10, 2) := by decide +kernel
theorem dX0_mayClash_148 : decode cX0_mayClash 148 = .ok (.if_icmp .ge 5, 3) := by decide +kernel
theorem dX0_mayClash_151 : decode cX0_mayClash 151 = .ok (.iconst 0, 1) := by decide +kernel
theorem dX0_mayClash_152 : decode cX0_mayClash 152 = .ok (.ireturn, 1) := by decide +kernel
theorem dX0_mayClash_153 : decode cX0_mayClash 153 = .ok (.iload 4, 2) := by decide +kernel
theorem dX0_mayClash_155 : decode cX0_mayClash 155 = .ok (.iload 5, 2) := by decide +kernel
theorem dX0_mayClash_157 : decode cX0_mayClash 157 = .ok (.if_icmp .ge 11, 3) := by decide +kernel
theorem dX0_mayClash_160 : decode cX0_mayClash 160 = .ok (.iload 5, 2) := by decide +kernel
theorem dX0_mayClash_162 : decode cX0_mayClash 162 = .ok (.iload 4, 2) := by decide +kernel
theorem dX0_mayClash_164 : decode cX0_mayClash 164 = .ok (.isub, 1) := by decide +kernel
theorem dX0_mayClash_165 : decode cX0_mayClash 165 = .ok (.goto 8, 3) := by decide +kernel
theorem dX0_mayClash_168 : decode cX0_mayClash 168 = .ok (.iload 4, 2) := by decide +kernel
theorem dX0_mayClash_170 : decode cX0_mayClash 170 = .ok (.iload 5, 2) := by decide +kernel
theorem dX0_mayClash_172 : decode cX0_mayClash 172 = .ok (.isub, 1) := by decide +kernel
theorem dX0_mayClash_173 : decode cX0_mayClash 173 = .ok (.istore 14, 2) := by decide +kernel
theorem dX0_mayClash_175 : decode cX0_mayClash 175 = .ok (.iload 6, 2) := by decide +kernel
theorem dX0_mayClash_177 : decode cX0_mayClash 177 = .ok (.ifCond .ge 9, 3) := by decide +kernel
theorem dX0_mayClash_180 : decode cX0_mayClash 180 = .ok (.iload 6, 2) := by decide +kernel
theorem dX0_mayClash_182 : decode cX0_mayClash 182 = .ok (.ineg, 1) := by decide +kernel
theorem dX0_mayClash_183 : decode cX0_mayClash 183 = .ok (.goto 5, 3) := by decide +kernel
theorem dX0_mayClash_186 : decode cX0_mayClash 186 = .ok (.iload 6, 2) := by decide +kernel
theorem dX0_mayClash_188 : decode cX0_mayClash 188 = .ok (.istore 15, 2) := by decide +kernel
theorem dX0_mayClash_190 : decode cX0_mayClash 190 = .ok (.iload 15, 2) := by decide +kernel
theorem dX0_mayClash_192 : decode cX0_mayClash 192 = .ok (.iconst 1, 1) := by decide +kernel
theorem dX0_mayClash_193 : decode cX0_mayClash 193 = .ok (.if_icmp .le 22, 3) := by decide +kernel
theorem dX0_mayClash_196 : decode cX0_mayClash 196 = .ok (.iload 6, 2) := by decide +kernel
theorem dX0_mayClash_198 : decode cX0_mayClash 198 = .ok (.iload 7, 2) := by decide +kernel
theorem dX0_mayClash_200 : decode cX0_mayClash 200 = .ok (.if_icmp .eq 11, 3) := by decide +kernel
theorem dX0_mayClash_203 : decode cX0_mayClash 203 = .ok (.iload 6, 2) := by decide +kernel
theorem dX0_mayClash_205 : decode cX0_mayClash 205 = .ok (.iload 7, 2) := by decide +kernel
theorem dX0_mayClash_207 : decode cX0_mayClash 207 = .ok (.ineg, 1) := by decide +kernel
theorem dX0_mayClash_208 : decode cX0_mayClash 208 = .ok (.if_icmp .ne 7, 3) := by decide +kernel
theorem dX0_mayClash_211 : decode cX0_mayClash 211 = .ok (.iconst 1, 1) := by decide +kernel
theorem dX0_mayClash_212 : decode cX0_mayClash 212 = .ok (.goto 4, 3) := by decide +kernel
theorem dX0_mayClash_215 : decode cX0_mayClash 215 = .ok (.iconst 0, 1) := by decide +kernel
theorem dX0_mayClash_216 : decode cX0_mayClash 216 = .ok (.istore 16, 2) := by decide +kernel
theorem dX0_mayClash_218 : decode cX0_mayClash 218 = .ok (.iload 16, 2) := by decide +kernel
theorem dX0_mayClash_220 : decode cX0_mayClash 220 = .ok (.ifCond .eq 20, 3) := by decide +kernel
theorem dX0_mayClash_223 : decode cX0_mayClash 223 = .ok (.iload 14, 2) := by decide +kernel
theorem dX0_mayClash_225 : decode cX0_mayClash 225 = .ok (.iload 15, 2) := by decide +kernel
theorem dX0_mayClash_227 : decode cX0_mayClash 227 = .ok (.ifCond .le 8, 3) := by decide +kernel
theorem dX0_mayClash_230 : decode cX0_mayClash 230 = .ok (.iload 15, 2) := by decide +kernel
theorem dX0_mayClash_232 : decode cX0_mayClash 232 = .ok (.goto 4, 3) := by decide +kernel
theorem dX0_mayClash_235 : decode cX0_mayClash 235 = .ok (.iconst 1, 1) := by decide +kernel
theorem dX0_mayClash_236 : decode cX0_mayClash 236 = .ok (.irem, 1) := by decide +kernel
theorem dX0_mayClash_237 : decode cX0_mayClash 237 = .ok (.ifCond .ne 7, 3) := by decide +kernel
theorem dX0_mayClash_240 : decode cX0_mayClash 240 = .ok (.iconst 1, 1) := by decide +kernel
theorem dX0_mayClash_241 : decode cX0_mayClash 241 = .ok (.goto 4, 3) := by decide +kernel
theorem dX0_mayClash_244 : decode cX0_mayClash 244 = .ok (.iconst 0, 1) := by decide +kernel
theorem dX0_mayClash_245 : decode cX0_mayClash 245 = .ok (.ireturn, 1) := by decide +kernel
end
section
set_option maxRecDepth 100000
abbrev cX0_fourRounds : ByteArray := prog_1_method_29_code
def yX0_fourRounds : MethodName := ⟨RX0, "fourRounds", "(II)V"⟩
theorem dX0_fourRounds_0 : decode cX0_fourRounds 0 = .ok (.aload_n 0, 1) := by decide +kernel
theorem dX0_fourRounds_1 : decode cX0_fourRounds 1 = .ok (.aload_n 0, 1) := by decide +kernel
theorem dX0_fourRounds_2 : decode cX0_fourRounds 2 = .ok (.getfield 22, 3) := by decide +kernel
theorem dX0_fourRounds_5 : decode cX0_fourRounds 5 = .ok (.iload_n 1, 1) := by decide +kernel
theorem dX0_fourRounds_6 : decode cX0_fourRounds 6 = .ok (.iaload, 1) := by decide +kernel
theorem dX0_fourRounds_7 : decode cX0_fourRounds 7 = .ok (.invokevirtual 77, 3) := by decide +kernel
theorem dX0_fourRounds_10 : decode cX0_fourRounds 10 = .ok (.aload_n 0, 1) := by decide +kernel
theorem dX0_fourRounds_11 : decode cX0_fourRounds 11 = .ok (.getfield 22, 3) := by decide +kernel
theorem dX0_fourRounds_14 : decode cX0_fourRounds 14 = .ok (.iload_n 1, 1) := by decide +kernel
theorem dX0_fourRounds_15 : decode cX0_fourRounds 15 = .ok (.iaload, 1) := by decide +kernel
theorem dX0_fourRounds_16 : decode cX0_fourRounds 16 = .ok (.invokestatic 81, 3) := by decide +kernel
theorem dX0_fourRounds_19 : decode cX0_fourRounds 19 = .ok (.iload_n 2, 1) := by decide +kernel
theorem dX0_fourRounds_20 : decode cX0_fourRounds 20 = .ok (.imul, 1) := by decide +kernel
theorem dX0_fourRounds_21 : decode cX0_fourRounds 21 = .ok (.iadd, 1) := by decide +kernel
theorem dX0_fourRounds_22 : decode cX0_fourRounds 22 = .ok (.istore_n 3, 1) := by decide +kernel
theorem dX0_fourRounds_23 : decode cX0_fourRounds 23 = .ok (.iconst 0, 1) := by decide +kernel
theorem dX0_fourRounds_24 : decode cX0_fourRounds 24 = .ok (.istore 4, 2) := by decide +kernel
theorem dX0_fourRounds_26 : decode cX0_fourRounds 26 = .ok (.iload 4, 2) := by decide +kernel
theorem dX0_fourRounds_28 : decode cX0_fourRounds 28 = .ok (.iconst 4, 1) := by decide +kernel
theorem dX0_fourRounds_29 : decode cX0_fourRounds 29 = .ok (.if_icmp .ge 50, 3) := by decide +kernel
theorem dX0_fourRounds_32 : decode cX0_fourRounds 32 = .ok (.aload_n 0, 1) := by decide +kernel
theorem dX0_fourRounds_33 : decode cX0_fourRounds 33 = .ok (.getfield 28, 3) := by decide +kernel
theorem dX0_fourRounds_36 : decode cX0_fourRounds 36 = .ok (.iload 4, 2) := by decide +kernel
theorem dX0_fourRounds_38 : decode cX0_fourRounds 38 = .ok (.aload_n 0, 1) := by decide +kernel
theorem dX0_fourRounds_39 : decode cX0_fourRounds 39 = .ok (.getfield 7, 3) := by decide +kernel
theorem dX0_fourRounds_42 : decode cX0_fourRounds 42 = .ok (.iload_n 3, 1) := by decide +kernel
theorem dX0_fourRounds_43 : decode cX0_fourRounds 43 = .ok (.bipush 63, 2) := by decide +kernel
theorem dX0_fourRounds_45 : decode cX0_fourRounds 45 = .ok (.iand, 1) := by decide +kernel
theorem dX0_fourRounds_46 : decode cX0_fourRounds 46 = .ok (.iaload, 1) := by decide +kernel
theorem dX0_fourRounds_47 : decode cX0_fourRounds 47 = .ok (.iastore, 1) := by decide +kernel
theorem dX0_fourRounds_48 : decode cX0_fourRounds 48 = .ok (.iload_n 3, 1) := by decide +kernel
theorem dX0_fourRounds_49 : decode cX0_fourRounds 49 = .ok (.aload_n 0, 1) := by decide +kernel
theorem dX0_fourRounds_50 : decode cX0_fourRounds 50 = .ok (.getfield 22, 3) := by decide +kernel
theorem dX0_fourRounds_53 : decode cX0_fourRounds 53 = .ok (.iload_n 1, 1) := by decide +kernel
theorem dX0_fourRounds_54 : decode cX0_fourRounds 54 = .ok (.iaload, 1) := by decide +kernel
theorem dX0_fourRounds_55 : decode cX0_fourRounds 55 = .ok (.invokestatic 81, 3) := by decide +kernel
theorem dX0_fourRounds_58 : decode cX0_fourRounds 58 = .ok (.iadd, 1) := by decide +kernel
theorem dX0_fourRounds_59 : decode cX0_fourRounds 59 = .ok (.istore_n 3, 1) := by decide +kernel
theorem dX0_fourRounds_60 : decode cX0_fourRounds 60 = .ok (.aload_n 0, 1) := by decide +kernel
theorem dX0_fourRounds_61 : decode cX0_fourRounds 61 = .ok (.getfield 31, 3) := by decide +kernel
theorem dX0_fourRounds_64 : decode cX0_fourRounds 64 = .ok (.iload 4, 2) := by decide +kernel
theorem dX0_fourRounds_66 : decode cX0_fourRounds 66 = .ok (.aload_n 0, 1) := by decide +kernel
theorem dX0_fourRounds_67 : decode cX0_fourRounds 67 = .ok (.getfield 25, 3) := by decide +kernel
theorem dX0_fourRounds_70 : decode cX0_fourRounds 70 = .ok (.iload_n 1, 1) := by decide +kernel
theorem dX0_fourRounds_71 : decode cX0_fourRounds 71 = .ok (.iaload, 1) := by decide +kernel
theorem dX0_fourRounds_72 : decode cX0_fourRounds 72 = .ok (.iastore, 1) := by decide +kernel
theorem dX0_fourRounds_73 : decode cX0_fourRounds 73 = .ok (.iinc 4 1, 3) := by decide +kernel
theorem dX0_fourRounds_76 : decode cX0_fourRounds 76 = .ok (.goto (-50), 3) := by decide +kernel
theorem dX0_fourRounds_79 : decode cX0_fourRounds 79 = .ok (.aload_n 0, 1) := by decide +kernel
theorem dX0_fourRounds_80 : decode cX0_fourRounds 80 = .ok (.getfield 16, 3) := by decide +kernel
theorem dX0_fourRounds_83 : decode cX0_fourRounds 83 = .ok (.iload_n 1, 1) := by decide +kernel
theorem dX0_fourRounds_84 : decode cX0_fourRounds 84 = .ok (.iaload, 1) := by decide +kernel
theorem dX0_fourRounds_85 : decode cX0_fourRounds 85 = .ok (.invokestatic 49, 3) := by decide +kernel
theorem dX0_fourRounds_88 : decode cX0_fourRounds 88 = .ok (.ifCond .eq 73, 3) := by decide +kernel
theorem dX0_fourRounds_91 : decode cX0_fourRounds 91 = .ok (.aload_n 0, 1) := by decide +kernel
theorem dX0_fourRounds_92 : decode cX0_fourRounds 92 = .ok (.aload_n 0, 1) := by decide +kernel
theorem dX0_fourRounds_93 : decode cX0_fourRounds 93 = .ok (.getfield 25, 3) := by decide +kernel
theorem dX0_fourRounds_96 : decode cX0_fourRounds 96 = .ok (.iload_n 1, 1) := by decide +kernel
theorem dX0_fourRounds_97 : decode cX0_fourRounds 97 = .ok (.iaload, 1) := by decide +kernel
theorem dX0_fourRounds_98 : decode cX0_fourRounds 98 = .ok (.invokevirtual 77, 3) := by decide +kernel
theorem dX0_fourRounds_101 : decode cX0_fourRounds 101 = .ok (.aload_n 0, 1) := by decide +kernel
theorem dX0_fourRounds_102 : decode cX0_fourRounds 102 = .ok (.getfield 25, 3) := by decide +kernel
theorem dX0_fourRounds_105 : decode cX0_fourRounds 105 = .ok (.iload_n 1, 1) := by decide +kernel
theorem dX0_fourRounds_106 : decode cX0_fourRounds 106 = .ok (.iaload, 1) := by decide +kernel
theorem dX0_fourRounds_107 : decode cX0_fourRounds 107 = .ok (.invokestatic 81, 3) := by decide +kernel
theorem dX0_fourRounds_110 : decode cX0_fourRounds 110 = .ok (.iload_n 2, 1) := by decide +kernel
theorem dX0_fourRounds_111 : decode cX0_fourRounds 111 = .ok (.imul, 1) := by decide +kernel
theorem dX0_fourRounds_112 : decode cX0_fourRounds 112 = .ok (.iadd, 1) := by decide +kernel
theorem dX0_fourRounds_113 : decode cX0_fourRounds 113 = .ok (.istore 4, 2) := by decide +kernel
theorem dX0_fourRounds_115 : decode cX0_fourRounds 115 = .ok (.iconst 0, 1) := by decide +kernel
theorem dX0_fourRounds_116 : decode cX0_fourRounds 116 = .ok (.istore 5, 2) := by decide +kernel
theorem dX0_fourRounds_118 : decode cX0_fourRounds 118 = .ok (.iload 5, 2) := by decide +kernel
theorem dX0_fourRounds_120 : decode cX0_fourRounds 120 = .ok (.iconst 4, 1) := by decide +kernel
theorem dX0_fourRounds_121 : decode cX0_fourRounds 121 = .ok (.if_icmp .ge 40, 3) := by decide +kernel
theorem dX0_fourRounds_124 : decode cX0_fourRounds 124 = .ok (.aload_n 0, 1) := by decide +kernel
theorem dX0_fourRounds_125 : decode cX0_fourRounds 125 = .ok (.getfield 31, 3) := by decide +kernel
theorem dX0_fourRounds_128 : decode cX0_fourRounds 128 = .ok (.iload 5, 2) := by decide +kernel
theorem dX0_fourRounds_130 : decode cX0_fourRounds 130 = .ok (.aload_n 0, 1) := by decide +kernel
theorem dX0_fourRounds_131 : decode cX0_fourRounds 131 = .ok (.getfield 7, 3) := by decide +kernel
theorem dX0_fourRounds_134 : decode cX0_fourRounds 134 = .ok (.iload 4, 2) := by decide +kernel
theorem dX0_fourRounds_136 : decode cX0_fourRounds 136 = .ok (.bipush 63, 2) := by decide +kernel
theorem dX0_fourRounds_138 : decode cX0_fourRounds 138 = .ok (.iand, 1) := by decide +kernel
theorem dX0_fourRounds_139 : decode cX0_fourRounds 139 = .ok (.iaload, 1) := by decide +kernel
theorem dX0_fourRounds_140 : decode cX0_fourRounds 140 = .ok (.iastore, 1) := by decide +kernel
theorem dX0_fourRounds_141 : decode cX0_fourRounds 141 = .ok (.iload 4, 2) := by decide +kernel
theorem dX0_fourRounds_143 : decode cX0_fourRounds 143 = .ok (.aload_n 0, 1) := by decide +kernel
theorem dX0_fourRounds_144 : decode cX0_fourRounds 144 = .ok (.getfield 25, 3) := by decide +kernel
theorem dX0_fourRounds_147 : decode cX0_fourRounds 147 = .ok (.iload_n 1, 1) := by decide +kernel
theorem dX0_fourRounds_148 : decode cX0_fourRounds 148 = .ok (.iaload, 1) := by decide +kernel
theorem dX0_fourRounds_149 : decode cX0_fourRounds 149 = .ok (.invokestatic 81, 3) := by decide +kernel
theorem dX0_fourRounds_152 : decode cX0_fourRounds 152 = .ok (.iadd, 1) := by decide +kernel
theorem dX0_fourRounds_153 : decode cX0_fourRounds 153 = .ok (.istore 4, 2) := by decide +kernel
theorem dX0_fourRounds_155 : decode cX0_fourRounds 155 = .ok (.iinc 5 1, 3) := by decide +kernel
theorem dX0_fourRounds_158 : decode cX0_fourRounds 158 = .ok (.goto (-40), 3) := by decide +kernel
theorem dX0_fourRounds_161 : decode cX0_fourRounds 161 = .ok (.aload_n 0, 1) := by decide +kernel
theorem dX0_fourRounds_162 : decode cX0_fourRounds 162 = .ok (.getfield 16, 3) := by decide +kernel
theorem dX0_fourRounds_165 : decode cX0_fourRounds 165 = .ok (.iload_n 1, 1) := by decide +kernel
theorem dX0_fourRounds_166 : decode cX0_fourRounds 166 = .ok (.iaload, 1) := by decide +kernel
theorem dX0_fourRounds_167 : decode cX0_fourRounds 167 = .ok (.bipush 6, 2) := by decide +kernel
theorem dX0_fourRounds_169 : decode cX0_fourRounds 169 = .ok (.if_icmp .ne 47, 3) := by decide +kernel
theorem dX0_fourRounds_172 : decode cX0_fourRounds 172 = .ok (.aload_n 0, 1) := by decide +kernel
theorem dX0_fourRounds_173 : decode cX0_fourRounds 173 = .ok (.dup, 1) := by decide +kernel
theorem dX0_fourRounds_174 : decode cX0_fourRounds 174 = .ok (.getfield 62, 3) := by decide +kernel
theorem dX0_fourRounds_177 : decode cX0_fourRounds 177 = .ok (.aload_n 0, 1) := by decide +kernel
theorem dX0_fourRounds_178 : decode cX0_fourRounds 178 = .ok (.getfield 28, 3) := by decide +kernel
theorem dX0_fourRounds_181 : decode cX0_fourRounds 181 = .ok (.iconst 0, 1) := by decide +kernel
theorem dX0_fourRounds_182 : decode cX0_fourRounds 182 = .ok (.iaload, 1) := by decide +kernel
theorem dX0_fourRounds_183 : decode cX0_fourRounds 183 = .ok (.aload_n 0, 1) := by decide +kernel
theorem dX0_fourRounds_184 : decode cX0_fourRounds 184 = .ok (.getfield 28, 3) := by decide +kernel
theorem dX0_fourRounds_187 : decode cX0_fourRounds 187 = .ok (.iconst 1, 1) := by decide +kernel
theorem dX0_fourRounds_188 : decode cX0_fourRounds 188 = .ok (.iaload, 1) := by decide +kernel
theorem dX0_fourRounds_189 : decode cX0_fourRounds 189 = .ok (.iadd, 1) := by decide +kernel
theorem dX0_fourRounds_190 : decode cX0_fourRounds 190 = .ok (.aload_n 0, 1) := by decide +kernel
theorem dX0_fourRounds_191 : decode cX0_fourRounds 191 = .ok (.getfield 28, 3) := by decide +kernel
theorem dX0_fourRounds_194 : decode cX0_fourRounds 194 = .ok (.iconst 2, 1) := by decide +kernel
theorem dX0_fourRounds_195 : decode cX0_fourRounds 195 = .ok (.iaload, 1) := by decide +kernel
theorem dX0_fourRounds_196 : decode cX0_fourRounds 196 = .ok (.iadd, 1) := by decide +kernel
theorem dX0_fourRounds_197 : decode cX0_fourRounds 197 = .ok (.aload_n 0, 1) := by decide +kernel
theorem dX0_fourRounds_198 : decode cX0_fourRounds 198 = .ok (.getfield 28, 3) := by decide +kernel
theorem dX0_fourRounds_201 : decode cX0_fourRounds 201 = .ok (.iconst 3, 1) := by decide +kernel
theorem dX0_fourRounds_202 : decode cX0_fourRounds 202 = .ok (.iaload, 1) := by decide +kernel
theorem dX0_fourRounds_203 : decode cX0_fourRounds 203 = .ok (.iadd, 1) := by decide +kernel
theorem dX0_fourRounds_204 : decode cX0_fourRounds 204 = .ok (.aload_n 0, 1) := by decide +kernel
theorem dX0_fourRounds_205 : decode cX0_fourRounds 205 = .ok (.getfield 25, 3) := by decide +kernel
theorem dX0_fourRounds_208 : decode cX0_fourRounds 208 = .ok (.iload_n 1, 1) := by decide +kernel
theorem dX0_fourRounds_209 : decode cX0_fourRounds 209 = .ok (.iaload, 1) := by decide +kernel
theorem dX0_fourRounds_210 : decode cX0_fourRounds 210 = .ok (.imul, 1) := by decide +kernel
theorem dX0_fourRounds_211 : decode cX0_fourRounds 211 = .ok (.iadd, 1) := by decide +kernel
theorem dX0_fourRounds_212 : decode cX0_fourRounds 212 = .ok (.putfield 62, 3) := by decide +kernel
theorem dX0_fourRounds_215 : decode cX0_fourRounds 215 = .ok (.return_, 1) := by decide +kernel
theorem dX0_fourRounds_216 : decode cX0_fourRounds 216 = .ok (.aload_n 0, 1) := by decide +kernel
theorem dX0_fourRounds_217 : decode cX0_fourRounds 217 = .ok (.aload_n 0, 1) := by decide +kernel
theorem dX0_fourRounds_218 : decode cX0_fourRounds 218 = .ok (.getfield 19, 3) := by decide +kernel
theorem dX0_fourRounds_221 : decode cX0_fourRounds 221 = .ok (.iload_n 1, 1) := by decide +kernel
theorem dX0_fourRounds_222 : decode cX0_fourRounds 222 = .ok (.iaload, 1) := by decide +kernel
theorem dX0_fourRounds_223 : decode cX0_fourRounds 223 = .ok (.invokevirtual 77, 3) := by decide +kernel
theorem dX0_fourRounds_226 : decode cX0_fourRounds 226 = .ok (.aload_n 0, 1) := by decide +kernel
theorem dX0_fourRounds_227 : decode cX0_fourRounds 227 = .ok (.getfield 19, 3) := by decide +kernel
theorem dX0_fourRounds_230 : decode cX0_fourRounds 230 = .ok (.iload_n 1, 1) := by decide +kernel
theorem dX0_fourRounds_231 : decode cX0_fourRounds 231 = .ok (.iaload, 1) := by decide +kernel
theorem dX0_fourRounds_232 : decode cX0_fourRounds 232 = .ok (.invokestatic 81, 3) := by decide +kernel
theorem dX0_fourRounds_235 : decode cX0_fourRounds 235 = .ok (.iload_n 2, 1) := by decide +kernel
theorem dX0_fourRounds_236 : decode cX0_fourRounds 236 = .ok (.imul, 1) := by decide +kernel
theorem dX0_fourRounds_237 : decode cX0_fourRounds 237 = .ok (.iadd, 1) := by decide +kernel
theorem dX0_fourRounds_238 : decode cX0_fourRounds 238 = .ok (.istore 4, 2) := by decide +kernel
theorem dX0_fourRounds_240 : decode cX0_fourRounds 240 = .ok (.iconst 0, 1) := by decide +kernel
theorem dX0_fourRounds_241 : decode cX0_fourRounds 241 = .ok (.istore 5, 2) := by decide +kernel
theorem dX0_fourRounds_243 : decode cX0_fourRounds 243 = .ok (.iload 5, 2) := by decide +kernel
theorem dX0_fourRounds_245 : decode cX0_fourRounds 245 = .ok (.iconst 4, 1) := by decide +kernel
theorem dX0_fourRounds_246 : decode cX0_fourRounds 246 = .ok (.if_icmp .ge 60, 3) := by decide +kernel
theorem dX0_fourRounds_249 : decode cX0_fourRounds 249 = .ok (.aload_n 0, 1) := by decide +kernel
theorem dX0_fourRounds_250 : decode cX0_fourRounds 250 = .ok (.getfield 7, 3) := by decide +kernel
theorem dX0_fourRounds_253 : decode cX0_fourRounds 253 = .ok (.iload 4, 2) := by decide +kernel
theorem dX0_fourRounds_255 : decode cX0_fourRounds 255 = .ok (.bipush 63, 2) := by decide +kernel
theorem dX0_fourRounds_257 : decode cX0_fourRounds 257 = .ok (.iand, 1) := by decide +kernel
theorem dX0_fourRounds_258 : decode cX0_fourRounds 258 = .ok (.aload_n 0, 1) := by decide +kernel
theorem dX0_fourRounds_259 : decode cX0_fourRounds 259 = .ok (.getfield 16, 3) := by decide +kernel
theorem dX0_fourRounds_262 : decode cX0_fourRounds 262 = .ok (.iload_n 1, 1) := by decide +kernel
theorem dX0_fourRounds_263 : decode cX0_fourRounds 263 = .ok (.iaload, 1) := by decide +kernel
theorem dX0_fourRounds_264 : decode cX0_fourRounds 264 = .ok (.aload_n 0, 1) := by decide +kernel
theorem dX0_fourRounds_265 : decode cX0_fourRounds 265 = .ok (.getfield 28, 3) := by decide +kernel
theorem dX0_fourRounds_268 : decode cX0_fourRounds 268 = .ok (.iload 5, 2) := by decide +kernel
theorem dX0_fourRounds_270 : decode cX0_fourRounds 270 = .ok (.iaload, 1) := by decide +kernel
theorem dX0_fourRounds_271 : decode cX0_fourRounds 271 = .ok (.aload_n 0, 1) := by decide +kernel
theorem dX0_fourRounds_272 : decode cX0_fourRounds 272 = .ok (.getfield 31, 3) := by decide +kernel
theorem dX0_fourRounds_275 : decode cX0_fourRounds 275 = .ok (.iload 5, 2) := by decide +kernel
theorem dX0_fourRounds_277 : decode cX0_fourRounds 277 = .ok (.iaload, 1) := by decide +kernel
theorem dX0_fourRounds_278 : decode cX0_fourRounds 278 = .ok (.iload_n 2, 1) := by decide +kernel
theorem dX0_fourRounds_279 : decode cX0_fourRounds 279 = .ok (.iload 5, 2) := by decide +kernel
theorem dX0_fourRounds_281 : decode cX0_fourRounds 281 = .ok (.iadd, 1) := by decide +kernel
theorem dX0_fourRounds_282 : decode cX0_fourRounds 282 = .ok (.invokestatic 106, 3) := by decide +kernel
theorem dX0_fourRounds_285 : decode cX0_fourRounds 285 = .ok (.iastore, 1) := by decide +kernel
theorem dX0_fourRounds_286 : decode cX0_fourRounds 286 = .ok (.iload 4, 2) := by decide +kernel
theorem dX0_fourRounds_288 : decode cX0_fourRounds 288 = .ok (.aload_n 0, 1) := by decide +kernel
theorem dX0_fourRounds_289 : decode cX0_fourRounds 289 = .ok (.getfield 19, 3) := by decide +kernel
theorem dX0_fourRounds_292 : decode cX0_fourRounds 292 = .ok (.iload_n 1, 1) := by decide +kernel
theorem dX0_fourRounds_293 : decode cX0_fourRounds 293 = .ok (.iaload, 1) := by decide +kernel
theorem dX0_fourRounds_294 : decode cX0_fourRounds 294 = .ok (.invokestatic 81, 3) := by decide +kernel
theorem dX0_fourRounds_297 : decode cX0_fourRounds 297 = .ok (.iadd, 1) := by decide +kernel
theorem dX0_fourRounds_298 : decode cX0_fourRounds 298 = .ok (.istore 4, 2) := by decide +kernel
theorem dX0_fourRounds_300 : decode cX0_fourRounds 300 = .ok (.iinc 5 1, 3) := by decide +kernel
theorem dX0_fourRounds_303 : decode cX0_fourRounds 303 = .ok (.goto (-60), 3) := by decide +kernel
theorem dX0_fourRounds_306 : decode cX0_fourRounds 306 = .ok (.return_, 1) := by decide +kernel
abbrev cX0_result : ByteArray := prog_1_method_30_code
def yX0_result : MethodName := ⟨RX0, "result", "(IIII)I"⟩
theorem dX0_result_0 : decode cX0_result 0 = .ok (.iload_n 0, 1) := by decide +kernel
theorem dX0_result_1 : decode cX0_result 1 = .ok (.ifCond .ne 5, 3) := by decide +kernel
theorem dX0_result_4 : decode cX0_result 4 = .ok (.iload_n 1, 1) := by decide +kernel
theorem dX0_result_5 : decode cX0_result 5 = .ok (.ireturn, 1) := by decide +kernel
theorem dX0_result_6 : decode cX0_result 6 = .ok (.iload_n 0, 1) := by decide +kernel
theorem dX0_result_7 : decode cX0_result 7 = .ok (.iconst 1, 1) := by decide +kernel
theorem dX0_result_8 : decode cX0_result 8 = .ok (.if_icmp .eq 8, 3) := by decide +kernel
theorem dX0_result_11 : decode cX0_result 11 = .ok (.iload_n 0, 1) := by decide +kernel
theorem dX0_result_12 : decode cX0_result 12 = .ok (.iconst 5, 1) := by decide +kernel
theorem dX0_result_13 : decode cX0_result 13 = .ok (.if_icmp .ne 7, 3) := by decide +kernel
theorem dX0_result_16 : decode cX0_result 16 = .ok (.iload_n 1, 1) := by decide +kernel
theorem dX0_result_17 : decode cX0_result 17 = .ok (.iload_n 2, 1) := by decide +kernel
theorem dX0_result_18 : decode cX0_result 18 = .ok (.iadd, 1) := by decide +kernel
theorem dX0_result_19 : decode cX0_result 19 = .ok (.ireturn, 1) := by decide +kernel
theorem dX0_result_20 : decode cX0_result 20 = .ok (.iload_n 0, 1) := by decide +kernel
theorem dX0_result_21 : decode cX0_result 21 = .ok (.iconst 2, 1) := by decide +kernel
theorem dX0_result_22 : decode cX0_result 22 = .ok (.if_icmp .ne 7, 3) := by decide +kernel
theorem dX0_result_25 : decode cX0_result 25 = .ok (.iload_n 1, 1) := by decide +kernel
theorem dX0_result_26 : decode cX0_result 26 = .ok (.iload_n 2, 1) := by decide +kernel
theorem dX0_result_27 : decode cX0_result 27 = .ok (.isub, 1) := by decide +kernel
theorem dX0_result_28 : decode cX0_result 28 = .ok (.ireturn, 1) := by decide +kernel
theorem dX0_result_29 : decode cX0_result 29 = .ok (.iload_n 0, 1) := by decide +kernel
theorem dX0_result_30 : decode cX0_result 30 = .ok (.iconst 3, 1) := by decide +kernel
theorem dX0_result_31 : decode cX0_result 31 = .ok (.if_icmp .ne 7, 3) := by decide +kernel
theorem dX0_result_34 : decode cX0_result 34 = .ok (.iload_n 1, 1) := by decide +kernel
theorem dX0_result_35 : decode cX0_result 35 = .ok (.iload_n 2, 1) := by decide +kernel
theorem dX0_result_36 : decode cX0_result 36 = .ok (.imul, 1) := by decide +kernel
theorem dX0_result_37 : decode cX0_result 37 = .ok (.ireturn, 1) := by decide +kernel
theorem dX0_result_38 : decode cX0_result 38 = .ok (.iload_n 0, 1) := by decide +kernel
theorem dX0_result_39 : decode cX0_result 39 = .ok (.iconst 4, 1) := by decide +kernel
theorem dX0_result_40 : decode cX0_result 40 = .ok (.if_icmp .ne 9, 3) := by decide +kernel
theorem dX0_result_43 : decode cX0_result 43 = .ok (.iload_n 1, 1) := by decide +kernel
theorem dX0_result_44 : decode cX0_result 44 = .ok (.iload_n 2, 1) := by decide +kernel
theorem dX0_result_45 : decode cX0_result 45 = .ok (.ixor, 1) := by decide +kernel
theorem dX0_result_46 : decode cX0_result 46 = .ok (.goto 6, 3) := by decide +kernel
theorem dX0_result_49 : decode cX0_result 49 = .ok (.iload_n 2, 1) := by decide +kernel
theorem dX0_result_50 : decode cX0_result 50 = .ok (.iload_n 3, 1) := by decide +kernel
theorem dX0_result_51 : decode cX0_result 51 = .ok (.iadd, 1) := by decide +kernel
theorem dX0_result_52 : decode cX0_result 52 = .ok (.ireturn, 1) := by decide +kernel
abbrev cX0_oneRound : ByteArray := prog_1_method_28_code
def yX0_oneRound : MethodName := ⟨RX0, "oneRound", "(II)V"⟩
theorem dX0_oneRound_0 : decode cX0_oneRound 0 = .ok (.aload_n 0, 1) := by decide +kernel
theorem dX0_oneRound_1 : decode cX0_oneRound 1 = .ok (.getfield 7, 3) := by decide +kernel
theorem dX0_oneRound_4 : decode cX0_oneRound 4 = .ok (.aload_n 0, 1) := by decide +kernel
theorem dX0_oneRound_5 : decode cX0_oneRound 5 = .ok (.aload_n 0, 1) := by decide +kernel
theorem dX0_oneRound_6 : decode cX0_oneRound 6 = .ok (.getfield 22, 3) := by decide +kernel
theorem dX0_oneRound_9 : decode cX0_oneRound 9 = .ok (.iload_n 1, 1) := by decide +kernel
theorem dX0_oneRound_10 : decode cX0_oneRound 10 = .ok (.iaload, 1) := by decide +kernel
theorem dX0_oneRound_11 : decode cX0_oneRound 11 = .ok (.iload_n 2, 1) := by decide +kernel
theorem dX0_oneRound_12 : decode cX0_oneRound 12 = .ok (.invokevirtual 65, 3) := by decide +kernel
theorem dX0_oneRound_15 : decode cX0_oneRound 15 = .ok (.iaload, 1) := by decide +kernel
theorem dX0_oneRound_16 : decode cX0_oneRound 16 = .ok (.istore_n 3, 1) := by decide +kernel
theorem dX0_oneRound_17 : decode cX0_oneRound 17 = .ok (.aload_n 0, 1) := by decide +kernel
theorem dX0_oneRound_18 : decode cX0_oneRound 18 = .ok (.getfield 16, 3) := by decide +kernel
theorem dX0_oneRound_21 : decode cX0_oneRound 21 = .ok (.iload_n 1, 1) := by decide +kernel
theorem dX0_oneRound_22 : decode cX0_oneRound 22 = .ok (.iaload, 1) := by decide +kernel
theorem dX0_oneRound_23 : decode cX0_oneRound 23 = .ok (.invokestatic 49, 3) := by decide +kernel
theorem dX0_oneRound_26 : decode cX0_oneRound 26 = .ok (.ifCond .eq 22, 3) := by decide +kernel
theorem dX0_oneRound_29 : decode cX0_oneRound 29 = .ok (.aload_n 0, 1) := by decide +kernel
theorem dX0_oneRound_30 : decode cX0_oneRound 30 = .ok (.getfield 7, 3) := by decide +kernel
theorem dX0_oneRound_33 : decode cX0_oneRound 33 = .ok (.aload_n 0, 1) := by decide +kernel
theorem dX0_oneRound_34 : decode cX0_oneRound 34 = .ok (.aload_n 0, 1) := by decide +kernel
theorem dX0_oneRound_35 : decode cX0_oneRound 35 = .ok (.getfield 25, 3) := by decide +kernel
theorem dX0_oneRound_38 : decode cX0_oneRound 38 = .ok (.iload_n 1, 1) := by decide +kernel
theorem dX0_oneRound_39 : decode cX0_oneRound 39 = .ok (.iaload, 1) := by decide +kernel
theorem dX0_oneRound_40 : decode cX0_oneRound 40 = .ok (.iload_n 2, 1) := by decide +kernel
theorem dX0_oneRound_41 : decode cX0_oneRound 41 = .ok (.invokevirtual 65, 3) := by decide +kernel
theorem dX0_oneRound_44 : decode cX0_oneRound 44 = .ok (.iaload, 1) := by decide +kernel
theorem dX0_oneRound_45 : decode cX0_oneRound 45 = .ok (.goto 9, 3) := by decide +kernel
theorem dX0_oneRound_48 : decode cX0_oneRound 48 = .ok (.aload_n 0, 1) := by decide +kernel
theorem dX0_oneRound_49 : decode cX0_oneRound 49 = .ok (.getfield 25, 3) := by decide +kernel
theorem dX0_oneRound_52 : decode cX0_oneRound 52 = .ok (.iload_n 1, 1) := by decide +kernel
theorem dX0_oneRound_53 : decode cX0_oneRound 53 = .ok (.iaload, 1) := by decide +kernel
theorem dX0_oneRound_54 : decode cX0_oneRound 54 = .ok (.istore 4, 2) := by decide +kernel
theorem dX0_oneRound_56 : decode cX0_oneRound 56 = .ok (.aload_n 0, 1) := by decide +kernel
theorem dX0_oneRound_57 : decode cX0_oneRound 57 = .ok (.getfield 16, 3) := by decide +kernel
theorem dX0_oneRound_60 : decode cX0_oneRound 60 = .ok (.iload_n 1, 1) := by decide +kernel
theorem dX0_oneRound_61 : decode cX0_oneRound 61 = .ok (.iaload, 1) := by decide +kernel
theorem dX0_oneRound_62 : decode cX0_oneRound 62 = .ok (.bipush 6, 2) := by decide +kernel
theorem dX0_oneRound_64 : decode cX0_oneRound 64 = .ok (.if_icmp .ne 19, 3) := by decide +kernel
theorem dX0_oneRound_67 : decode cX0_oneRound 67 = .ok (.aload_n 0, 1) := by decide +kernel
theorem dX0_oneRound_68 : decode cX0_oneRound 68 = .ok (.dup, 1) := by decide +kernel
theorem dX0_oneRound_69 : decode cX0_oneRound 69 = .ok (.getfield 62, 3) := by decide +kernel
theorem dX0_oneRound_72 : decode cX0_oneRound 72 = .ok (.iload_n 3, 1) := by decide +kernel
theorem dX0_oneRound_73 : decode cX0_oneRound 73 = .ok (.iload 4, 2) := by decide +kernel
theorem dX0_oneRound_75 : decode cX0_oneRound 75 = .ok (.imul, 1) := by decide +kernel
theorem dX0_oneRound_76 : decode cX0_oneRound 76 = .ok (.iadd, 1) := by decide +kernel
theorem dX0_oneRound_77 : decode cX0_oneRound 77 = .ok (.putfield 62, 3) := by decide +kernel
theorem dX0_oneRound_80 : decode cX0_oneRound 80 = .ok (.goto 32, 3) := by decide +kernel
theorem dX0_oneRound_83 : decode cX0_oneRound 83 = .ok (.aload_n 0, 1) := by decide +kernel
theorem dX0_oneRound_84 : decode cX0_oneRound 84 = .ok (.getfield 7, 3) := by decide +kernel
theorem dX0_oneRound_87 : decode cX0_oneRound 87 = .ok (.aload_n 0, 1) := by decide +kernel
theorem dX0_oneRound_88 : decode cX0_oneRound 88 = .ok (.aload_n 0, 1) := by decide +kernel
theorem dX0_oneRound_89 : decode cX0_oneRound 89 = .ok (.getfield 19, 3) := by decide +kernel
theorem dX0_oneRound_92 : decode cX0_oneRound 92 = .ok (.iload_n 1, 1) := by decide +kernel
theorem dX0_oneRound_93 : decode cX0_oneRound 93 = .ok (.iaload, 1) := by decide +kernel
theorem dX0_oneRound_94 : decode cX0_oneRound 94 = .ok (.iload_n 2, 1) := by decide +kernel
theorem dX0_oneRound_95 : decode cX0_oneRound 95 = .ok (.invokevirtual 65, 3) := by decide +kernel
theorem dX0_oneRound_98 : decode cX0_oneRound 98 = .ok (.aload_n 0, 1) := by decide +kernel
theorem dX0_oneRound_99 : decode cX0_oneRound 99 = .ok (.getfield 16, 3) := by decide +kernel
theorem dX0_oneRound_102 : decode cX0_oneRound 102 = .ok (.iload_n 1, 1) := by decide +kernel
theorem dX0_oneRound_103 : decode cX0_oneRound 103 = .ok (.iaload, 1) := by decide +kernel
theorem dX0_oneRound_104 : decode cX0_oneRound 104 = .ok (.iload_n 3, 1) := by decide +kernel
theorem dX0_oneRound_105 : decode cX0_oneRound 105 = .ok (.iload 4, 2) := by decide +kernel
theorem dX0_oneRound_107 : decode cX0_oneRound 107 = .ok (.iload_n 2, 1) := by decide +kernel
theorem dX0_oneRound_108 : decode cX0_oneRound 108 = .ok (.invokestatic 106, 3) := by decide +kernel
theorem dX0_oneRound_111 : decode cX0_oneRound 111 = .ok (.iastore, 1) := by decide +kernel
theorem dX0_oneRound_112 : decode cX0_oneRound 112 = .ok (.return_, 1) := by decide +kernel
abbrev cX0_cell : ByteArray := prog_1_method_21_code
def yX0_cell : MethodName := ⟨RX0, "cell", "(II)I"⟩
theorem dX0_cell_0 : decode cX0_cell 0 = .ok (.aload_n 0, 1) := by decide +kernel
theorem dX0_cell_1 : decode cX0_cell 1 = .ok (.iload_n 1, 1) := by decide +kernel
theorem dX0_cell_2 : decode cX0_cell 2 = .ok (.invokevirtual 77, 3) := by decide +kernel
theorem dX0_cell_5 : decode cX0_cell 5 = .ok (.iload_n 1, 1) := by decide +kernel
theorem dX0_cell_6 : decode cX0_cell 6 = .ok (.invokestatic 81, 3) := by decide +kernel
theorem dX0_cell_9 : decode cX0_cell 9 = .ok (.iload_n 2, 1) := by decide +kernel
theorem dX0_cell_10 : decode cX0_cell 10 = .ok (.imul, 1) := by decide +kernel
theorem dX0_cell_11 : decode cX0_cell 11 = .ok (.iadd, 1) := by decide +kernel
theorem dX0_cell_12 : decode cX0_cell 12 = .ok (.bipush 63, 2) := by decide +kernel
theorem dX0_cell_14 : decode cX0_cell 14 = .ok (.iand, 1) := by decide +kernel
theorem dX0_cell_15 : decode cX0_cell 15 = .ok (.ireturn, 1) := by decide +kernel
abbrev cX0_poke : ByteArray := prog_1_method_8_code
def yX0_poke : MethodName := ⟨RX0, "poke", "(II)I"⟩
theorem dX0_poke_0 : decode cX0_poke 0 = .ok (.iload_n 1, 1) := by decide +kernel
theorem dX0_poke_1 : decode cX0_poke 1 = .ok (.ifCond .lt 9, 3) := by decide +kernel
theorem dX0_poke_4 : decode cX0_poke 4 = .ok (.iload_n 1, 1) := by decide +kernel
theorem dX0_poke_5 : decode cX0_poke 5 = .ok (.bipush 64, 2) := by decide +kernel
theorem dX0_poke_7 : decode cX0_poke 7 = .ok (.if_icmp .lt 5, 3) := by decide +kernel
theorem dX0_poke_10 : decode cX0_poke 10 = .ok (.iconst (-1), 1) := by decide +kernel
theorem dX0_poke_11 : decode cX0_poke 11 = .ok (.ireturn, 1) := by decide +kernel
theorem dX0_poke_12 : decode cX0_poke 12 = .ok (.aload_n 0, 1) := by decide +kernel
theorem dX0_poke_13 : decode cX0_poke 13 = .ok (.getfield 7, 3) := by decide +kernel
theorem dX0_poke_16 : decode cX0_poke 16 = .ok (.iload_n 1, 1) := by decide +kernel
theorem dX0_poke_17 : decode cX0_poke 17 = .ok (.iload_n 2, 1) := by decide +kernel
theorem dX0_poke_18 : decode cX0_poke 18 = .ok (.iastore, 1) := by decide +kernel
theorem dX0_poke_19 : decode cX0_poke 19 = .ok (.iconst 0, 1) := by decide +kernel
theorem dX0_poke_20 : decode cX0_poke 20 = .ok (.ireturn, 1) := by decide +kernel
abbrev cX0_fill : ByteArray := prog_1_method_9_code
def yX0_fill : MethodName := ⟨RX0, "fill", "(IIII)I"⟩
theorem dX0_fill_0 : decode cX0_fill 0 = .ok (.iload_n 1, 1) := by decide +kernel
theorem dX0_fill_1 : decode cX0_fill 1 = .ok (.ifCond .lt 14, 3) := by decide +kernel
theorem dX0_fill_4 : decode cX0_fill 4 = .ok (.iload_n 1, 1) := by decide +kernel
theorem dX0_fill_5 : decode cX0_fill 5 = .ok (.iload_n 2, 1) := by decide +kernel
theorem dX0_fill_6 : decode cX0_fill 6 = .ok (.if_icmp .gt 9, 3) := by decide +kernel
theorem dX0_fill_9 : decode cX0_fill 9 = .ok (.iload_n 2, 1) := by decide +kernel
theorem dX0_fill_10 : decode cX0_fill 10 = .ok (.bipush 64, 2) := by decide +kernel
theorem dX0_fill_12 : decode cX0_fill 12 = .ok (.if_icmp .lt 5, 3) := by decide +kernel
theorem dX0_fill_15 : decode cX0_fill 15 = .ok (.iconst (-1), 1) := by decide +kernel
theorem dX0_fill_16 : decode cX0_fill 16 = .ok (.ireturn, 1) := by decide +kernel
theorem dX0_fill_17 : decode cX0_fill 17 = .ok (.iload_n 1, 1) := by decide +kernel
theorem dX0_fill_18 : decode cX0_fill 18 = .ok (.istore 5, 2) := by decide +kernel
theorem dX0_fill_20 : decode cX0_fill 20 = .ok (.iload 5, 2) := by decide +kernel
theorem dX0_fill_22 : decode cX0_fill 22 = .ok (.iload_n 2, 1) := by decide +kernel
theorem dX0_fill_23 : decode cX0_fill 23 = .ok (.if_icmp .gt 25, 3) := by decide +kernel
theorem dX0_fill_26 : decode cX0_fill 26 = .ok (.aload_n 0, 1) := by decide +kernel
theorem dX0_fill_27 : decode cX0_fill 27 = .ok (.getfield 7, 3) := by decide +kernel
theorem dX0_fill_30 : decode cX0_fill 30 = .ok (.iload 5, 2) := by decide +kernel
theorem dX0_fill_32 : decode cX0_fill 32 = .ok (.iload_n 3, 1) := by decide +kernel
theorem dX0_fill_33 : decode cX0_fill 33 = .ok (.iload 5, 2) := by decide +kernel
theorem dX0_fill_35 : decode cX0_fill 35 = .ok (.iload_n 1, 1) := by decide +kernel
theorem dX0_fill_36 : decode cX0_fill 36 = .ok (.isub, 1) := by decide +kernel
theorem dX0_fill_37 : decode cX0_fill 37 = .ok (.iload 4, 2) := by decide +kernel
theorem dX0_fill_39 : decode cX0_fill 39 = .ok (.imul, 1) := by decide +kernel
theorem dX0_fill_40 : decode cX0_fill 40 = .ok (.iadd, 1) := by decide +kernel
theorem dX0_fill_41 : decode cX0_fill 41 = .ok (.iastore, 1) := by decide +kernel
theorem dX0_fill_42 : decode cX0_fill 42 = .ok (.iinc 5 1, 3) := by decide +kernel
theorem dX0_fill_45 : decode cX0_fill 45 = .ok (.goto (-25), 3) := by decide +kernel
theorem dX0_fill_48 : decode cX0_fill 48 = .ok (.iconst 0, 1) := by decide +kernel
theorem dX0_fill_49 : decode cX0_fill 49 = .ok (.ireturn, 1) := by decide +kernel
abbrev cX0_peek : ByteArray := prog_1_method_10_code
def yX0_peek : MethodName := ⟨RX0, "peek", "(I)I"⟩
theorem dX0_peek_0 : decode cX0_peek 0 = .ok (.iload_n 1, 1) := by decide +kernel
theorem dX0_peek_1 : decode cX0_peek 1 = .ok (.ifCond .lt 9, 3) := by decide +kernel
theorem dX0_peek_4 : decode cX0_peek 4 = .ok (.iload_n 1, 1) := by decide +kernel
theorem dX0_peek_5 : decode cX0_peek 5 = .ok (.bipush 64, 2) := by decide +kernel
theorem dX0_peek_7 : decode cX0_peek 7 = .ok (.if_icmp .lt 7, 3) := by decide +kernel
theorem dX0_peek_10 : decode cX0_peek 10 = .ok (.iconst 0, 1) := by decide +kernel
theorem dX0_peek_11 : decode cX0_peek 11 = .ok (.goto 9, 3) := by decide +kernel
theorem dX0_peek_14 : decode cX0_peek 14 = .ok (.aload_n 0, 1) := by decide +kernel
theorem dX0_peek_15 : decode cX0_peek 15 = .ok (.getfield 7, 3) := by decide +kernel
theorem dX0_peek_18 : decode cX0_peek 18 = .ok (.iload_n 1, 1) := by decide +kernel
theorem dX0_peek_19 : decode cX0_peek 19 = .ok (.iaload, 1) := by decide +kernel
theorem dX0_peek_20 : decode cX0_peek 20 = .ok (.ireturn, 1) := by decide +kernel
abbrev cX0_total : ByteArray := prog_1_method_11_code
def yX0_total : MethodName := ⟨RX0, "total", "()I"⟩
theorem dX0_total_0 : decode cX0_total 0 = .ok (.aload_n 0, 1) := by decide +kernel
theorem dX0_total_1 : decode cX0_total 1 = .ok (.getfield 62, 3) := by decide +kernel
theorem dX0_total_4 : decode cX0_total 4 = .ok (.ireturn, 1) := by decide +kernel
abbrev cX0_setTotal : ByteArray := prog_1_method_12_code
def yX0_setTotal : MethodName := ⟨RX0, "setTotal", "(I)I"⟩
theorem dX0_setTotal_0 : decode cX0_setTotal 0 = .ok (.aload_n 0, 1) := by decide +kernel
theorem dX0_setTotal_1 : decode cX0_setTotal 1 = .ok (.getfield 62, 3) := by decide +kernel
theorem dX0_setTotal_4 : decode cX0_setTotal 4 = .ok (.istore_n 2, 1) := by decide +kernel
theorem dX0_setTotal_5 : decode cX0_setTotal 5 = .ok (.aload_n 0, 1) := by decide +kernel
theorem dX0_setTotal_6 : decode cX0_setTotal 6 = .ok (.iload_n 1, 1) := by decide +kernel
theorem dX0_setTotal_7 : decode cX0_setTotal 7 = .ok (.putfield 62, 3) := by decide +kernel
theorem dX0_setTotal_10 : decode cX0_setTotal 10 = .ok (.iload_n 2, 1) := by decide +kernel
theorem dX0_setTotal_11 : decode cX0_setTotal 11 = .ok (.ireturn, 1) := by decide +kernel
abbrev cX0_digest : ByteArray := prog_1_method_13_code
def yX0_digest : MethodName := ⟨RX0, "digest", "()I"⟩
theorem dX0_digest_0 : decode cX0_digest 0 = .ok (.iconst 0, 1) := by decide +kernel
theorem dX0_digest_1 : decode cX0_digest 1 = .ok (.istore_n 1, 1) := by decide +kernel
theorem dX0_digest_2 : decode cX0_digest 2 = .ok (.iconst 0, 1) := by decide +kernel
theorem dX0_digest_3 : decode cX0_digest 3 = .ok (.istore_n 2, 1) := by decide +kernel
theorem dX0_digest_4 : decode cX0_digest 4 = .ok (.iload_n 2, 1) := by decide +kernel
theorem dX0_digest_5 : decode cX0_digest 5 = .ok (.bipush 64, 2) := by decide +kernel
theorem dX0_digest_7 : decode cX0_digest 7 = .ok (.if_icmp .ge 22, 3) := by decide +kernel
theorem dX0_digest_10 : decode cX0_digest 10 = .ok (.iload_n 1, 1) := by decide +kernel
theorem dX0_digest_11 : decode cX0_digest 11 = .ok (.iload_n 2, 1) := by decide +kernel
theorem dX0_digest_12 : decode cX0_digest 12 = .ok (.iconst 1, 1) := by decide +kernel
theorem dX0_digest_13 : decode cX0_digest 13 = .ok (.iadd, 1) := by decide +kernel
theorem dX0_digest_14 : decode cX0_digest 14 = .ok (.aload_n 0, 1) := by decide +kernel
theorem dX0_digest_15 : decode cX0_digest 15 = .ok (.getfield 7, 3) := by decide +kernel
theorem dX0_digest_18 : decode cX0_digest 18 = .ok (.iload_n 2, 1) := by decide +kernel
theorem dX0_digest_19 : decode cX0_digest 19 = .ok (.iaload, 1) := by decide +kernel
theorem dX0_digest_20 : decode cX0_digest 20 = .ok (.imul, 1) := by decide +kernel
theorem dX0_digest_21 : decode cX0_digest 21 = .ok (.iadd, 1) := by decide +kernel
theorem dX0_digest_22 : decode cX0_digest 22 = .ok (.istore_n 1, 1) := by decide +kernel
theorem dX0_digest_23 : decode cX0_digest 23 = .ok (.iinc 2 1, 3) := by decide +kernel
theorem dX0_digest_26 : decode cX0_digest 26 = .ok (.goto (-22), 3) := by decide +kernel
theorem dX0_digest_29 : decode cX0_digest 29 = .ok (.iload_n 1, 1) := by decide +kernel
theorem dX0_digest_30 : decode cX0_digest 30 = .ok (.ireturn, 1) := by decide +kernel
abbrev cX0_cellOf : ByteArray := prog_1_method_14_code
def yX0_cellOf : MethodName := ⟨RX0, "cellOf", "(II)I"⟩
theorem dX0_cellOf_0 : decode cX0_cellOf 0 = .ok (.iload_n 1, 1) := by decide +kernel
theorem dX0_cellOf_1 : decode cX0_cellOf 1 = .ok (.invokestatic 45, 3) := by decide +kernel
theorem dX0_cellOf_4 : decode cX0_cellOf 4 = .ok (.ifCond .ne 5, 3) := by decide +kernel
theorem dX0_cellOf_7 : decode cX0_cellOf 7 = .ok (.iconst (-1), 1) := by decide +kernel
theorem dX0_cellOf_8 : decode cX0_cellOf 8 = .ok (.ireturn, 1) := by decide +kernel
theorem dX0_cellOf_9 : decode cX0_cellOf 9 = .ok (.iload_n 2, 1) := by decide +kernel
theorem dX0_cellOf_10 : decode cX0_cellOf 10 = .ok (.ifCond .lt 9, 3) := by decide +kernel
theorem dX0_cellOf_13 : decode cX0_cellOf 13 = .ok (.iload_n 2, 1) := by decide +kernel
theorem dX0_cellOf_14 : decode cX0_cellOf 14 = .ok (.bipush 39, 2) := by decide +kernel
theorem dX0_cellOf_16 : decode cX0_cellOf 16 = .ok (.if_icmp .le 6, 3) := by decide +kernel
theorem dX0_cellOf_19 : decode cX0_cellOf 19 = .ok (.bipush (-2), 2) := by decide +kernel
theorem dX0_cellOf_21 : decode cX0_cellOf 21 = .ok (.ireturn, 1) := by decide +kernel
theorem dX0_cellOf_22 : decode cX0_cellOf 22 = .ok (.aload_n 0, 1) := by decide +kernel
theorem dX0_cellOf_23 : decode cX0_cellOf 23 = .ok (.iload_n 1, 1) := by decide +kernel
theorem dX0_cellOf_24 : decode cX0_cellOf 24 = .ok (.iload_n 2, 1) := by decide +kernel
theorem dX0_cellOf_25 : decode cX0_cellOf 25 = .ok (.invokevirtual 65, 3) := by decide +kernel
theorem dX0_cellOf_28 : decode cX0_cellOf 28 = .ok (.ireturn, 1) := by decide +kernel
abbrev cX0_spread : ByteArray := prog_1_method_15_code
def yX0_spread : MethodName := ⟨RX0, "spread", "(II)I"⟩
theorem dX0_spread_0 : decode cX0_spread 0 = .ok (.iload_n 1, 1) := by decide +kernel
theorem dX0_spread_1 : decode cX0_spread 1 = .ok (.invokestatic 45, 3) := by decide +kernel
theorem dX0_spread_4 : decode cX0_spread 4 = .ok (.ifCond .ne 5, 3) := by decide +kernel
theorem dX0_spread_7 : decode cX0_spread 7 = .ok (.iconst (-1), 1) := by decide +kernel
theorem dX0_spread_8 : decode cX0_spread 8 = .ok (.ireturn, 1) := by decide +kernel
theorem dX0_spread_9 : decode cX0_spread 9 = .ok (.iload_n 2, 1) := by decide +kernel
theorem dX0_spread_10 : decode cX0_spread 10 = .ok (.ifCond .lt 9, 3) := by decide +kernel
theorem dX0_spread_13 : decode cX0_spread 13 = .ok (.iload_n 2, 1) := by decide +kernel
theorem dX0_spread_14 : decode cX0_spread 14 = .ok (.bipush 40, 2) := by decide +kernel
theorem dX0_spread_16 : decode cX0_spread 16 = .ok (.if_icmp .le 6, 3) := by decide +kernel
theorem dX0_spread_19 : decode cX0_spread 19 = .ok (.bipush (-2), 2) := by decide +kernel
theorem dX0_spread_21 : decode cX0_spread 21 = .ok (.ireturn, 1) := by decide +kernel
theorem dX0_spread_22 : decode cX0_spread 22 = .ok (.aload_n 0, 1) := by decide +kernel
theorem dX0_spread_23 : decode cX0_spread 23 = .ok (.iload_n 1, 1) := by decide +kernel
theorem dX0_spread_24 : decode cX0_spread 24 = .ok (.iload_n 2, 1) := by decide +kernel
theorem dX0_spread_25 : decode cX0_spread 25 = .ok (.invokevirtual 69, 3) := by decide +kernel
theorem dX0_spread_28 : decode cX0_spread 28 = .ok (.lstore_n 3, 1) := by decide +kernel
theorem dX0_spread_29 : decode cX0_spread 29 = .ok (.lload_n 3, 1) := by decide +kernel
theorem dX0_spread_30 : decode cX0_spread 30 = .ok (.invokestatic 73, 3) := by decide +kernel
theorem dX0_spread_33 : decode cX0_spread 33 = .ok (.ireturn, 1) := by decide +kernel
abbrev cX0_cellSet : ByteArray := prog_1_method_22_code
def yX0_cellSet : MethodName := ⟨RX0, "cellSet", "(II)J"⟩
theorem dX0_cellSet_0 : decode cX0_cellSet 0 = .ok (.lconst 0, 1) := by decide +kernel
theorem dX0_cellSet_1 : decode cX0_cellSet 1 = .ok (.lstore_n 3, 1) := by decide +kernel
theorem dX0_cellSet_2 : decode cX0_cellSet 2 = .ok (.aload_n 0, 1) := by decide +kernel
theorem dX0_cellSet_3 : decode cX0_cellSet 3 = .ok (.iload_n 1, 1) := by decide +kernel
theorem dX0_cellSet_4 : decode cX0_cellSet 4 = .ok (.invokevirtual 77, 3) := by decide +kernel
theorem dX0_cellSet_7 : decode cX0_cellSet 7 = .ok (.bipush 63, 2) := by decide +kernel
theorem dX0_cellSet_9 : decode cX0_cellSet 9 = .ok (.iand, 1) := by decide +kernel
theorem dX0_cellSet_10 : decode cX0_cellSet 10 = .ok (.istore 5, 2) := by decide +kernel
theorem dX0_cellSet_12 : decode cX0_cellSet 12 = .ok (.iconst 0, 1) := by decide +kernel
theorem dX0_cellSet_13 : decode cX0_cellSet 13 = .ok (.istore 6, 2) := by decide +kernel
theorem dX0_cellSet_15 : decode cX0_cellSet 15 = .ok (.iload 6, 2) := by decide +kernel
theorem dX0_cellSet_17 : decode cX0_cellSet 17 = .ok (.iload_n 2, 1) := by decide +kernel
theorem dX0_cellSet_18 : decode cX0_cellSet 18 = .ok (.if_icmp .ge 28, 3) := by decide +kernel
theorem dX0_cellSet_21 : decode cX0_cellSet 21 = .ok (.lload_n 3, 1) := by decide +kernel
theorem dX0_cellSet_22 : decode cX0_cellSet 22 = .ok (.lconst 1, 1) := by decide +kernel
theorem dX0_cellSet_23 : decode cX0_cellSet 23 = .ok (.iload 5, 2) := by decide +kernel
theorem dX0_cellSet_25 : decode cX0_cellSet 25 = .ok (.lshl, 1) := by decide +kernel
theorem dX0_cellSet_26 : decode cX0_cellSet 26 = .ok (.lor, 1) := by decide +kernel
theorem dX0_cellSet_27 : decode cX0_cellSet 27 = .ok (.lstore_n 3, 1) := by decide +kernel
theorem dX0_cellSet_28 : decode cX0_cellSet 28 = .ok (.iload 5, 2) := by decide +kernel
theorem dX0_cellSet_30 : decode cX0_cellSet 30 = .ok (.iload_n 1, 1) := by decide +kernel
theorem dX0_cellSet_31 : decode cX0_cellSet 31 = .ok (.invokestatic 81, 3) := by decide +kernel
theorem dX0_cellSet_34 : decode cX0_cellSet 34 = .ok (.iadd, 1) := by decide +kernel
theorem dX0_cellSet_35 : decode cX0_cellSet 35 = .ok (.bipush 63, 2) := by decide +kernel
theorem dX0_cellSet_37 : decode cX0_cellSet 37 = .ok (.iand, 1) := by decide +kernel
theorem dX0_cellSet_38 : decode cX0_cellSet 38 = .ok (.istore 5, 2) := by decide +kernel
theorem dX0_cellSet_40 : decode cX0_cellSet 40 = .ok (.iinc 6 1, 3) := by decide +kernel
theorem dX0_cellSet_43 : decode cX0_cellSet 43 = .ok (.goto (-28), 3) := by decide +kernel
theorem dX0_cellSet_46 : decode cX0_cellSet 46 = .ok (.lload_n 3, 1) := by decide +kernel
theorem dX0_cellSet_47 : decode cX0_cellSet 47 = .ok (.lreturn, 1) := by decide +kernel
abbrev cX0_ones : ByteArray := prog_1_method_23_code
def yX0_ones : MethodName := ⟨RX0, "ones", "(J)I"⟩
theorem dX0_ones_0 : decode cX0_ones 0 = .ok (.lload_n 0, 1) := by decide +kernel
theorem dX0_ones_1 : decode cX0_ones 1 = .ok (.lload_n 0, 1) := by decide +kernel
theorem dX0_ones_2 : decode cX0_ones 2 = .ok (.iconst 1, 1) := by decide +kernel
theorem dX0_ones_3 : decode cX0_ones 3 = .ok (.lushr, 1) := by decide +kernel
theorem dX0_ones_4 : decode cX0_ones 4 = .ok (.ldc2_w 84, 3) := by decide +kernel
theorem dX0_ones_7 : decode cX0_ones 7 = .ok (.land, 1) := by decide +kernel
theorem dX0_ones_8 : decode cX0_ones 8 = .ok (.lsub, 1) := by decide +kernel
theorem dX0_ones_9 : decode cX0_ones 9 = .ok (.lstore_n 2, 1) := by decide +kernel
theorem dX0_ones_10 : decode cX0_ones 10 = .ok (.lload_n 2, 1) := by decide +kernel
theorem dX0_ones_11 : decode cX0_ones 11 = .ok (.ldc2_w 86, 3) := by decide +kernel
theorem dX0_ones_14 : decode cX0_ones 14 = .ok (.land, 1) := by decide +kernel
theorem dX0_ones_15 : decode cX0_ones 15 = .ok (.lload_n 2, 1) := by decide +kernel
theorem dX0_ones_16 : decode cX0_ones 16 = .ok (.iconst 2, 1) := by decide +kernel
theorem dX0_ones_17 : decode cX0_ones 17 = .ok (.lushr, 1) := by decide +kernel
theorem dX0_ones_18 : decode cX0_ones 18 = .ok (.ldc2_w 86, 3) := by decide +kernel
theorem dX0_ones_21 : decode cX0_ones 21 = .ok (.land, 1) := by decide +kernel
theorem dX0_ones_22 : decode cX0_ones 22 = .ok (.ladd, 1) := by decide +kernel
theorem dX0_ones_23 : decode cX0_ones 23 = .ok (.lstore_n 2, 1) := by decide +kernel
theorem dX0_ones_24 : decode cX0_ones 24 = .ok (.lload_n 2, 1) := by decide +kernel
theorem dX0_ones_25 : decode cX0_ones 25 = .ok (.lload_n 2, 1) := by decide +kernel
theorem dX0_ones_26 : decode cX0_ones 26 = .ok (.iconst 4, 1) := by decide +kernel
theorem dX0_ones_27 : decode cX0_ones 27 = .ok (.lushr, 1) := by decide +kernel
theorem dX0_ones_28 : decode cX0_ones 28 = .ok (.ladd, 1) := by decide +kernel
theorem dX0_ones_29 : decode cX0_ones 29 = .ok (.ldc2_w 88, 3) := by decide +kernel
theorem dX0_ones_32 : decode cX0_ones 32 = .ok (.land, 1) := by decide +kernel
theorem dX0_ones_33 : decode cX0_ones 33 = .ok (.lstore_n 2, 1) := by decide +kernel
theorem dX0_ones_34 : decode cX0_ones 34 = .ok (.lload_n 2, 1) := by decide +kernel
theorem dX0_ones_35 : decode cX0_ones 35 = .ok (.ldc2_w 90, 3) := by decide +kernel
theorem dX0_ones_38 : decode cX0_ones 38 = .ok (.lmul, 1) := by decide +kernel
theorem dX0_ones_39 : decode cX0_ones 39 = .ok (.bipush 56, 2) := by decide +kernel
theorem dX0_ones_41 : decode cX0_ones 41 = .ok (.lushr, 1) := by decide +kernel
theorem dX0_ones_42 : decode cX0_ones 42 = .ok (.l2i, 1) := by decide +kernel
theorem dX0_ones_43 : decode cX0_ones 43 = .ok (.ireturn, 1) := by decide +kernel
abbrev cX0_meet : ByteArray := prog_1_method_16_code
def yX0_meet : MethodName := ⟨RX0, "meet", "(III)I"⟩
theorem dX0_meet_0 : decode cX0_meet 0 = .ok (.iload_n 1, 1) := by decide +kernel
theorem dX0_meet_1 : decode cX0_meet 1 = .ok (.invokestatic 45, 3) := by decide +kernel
theorem dX0_meet_4 : decode cX0_meet 4 = .ok (.ifCond .eq 10, 3) := by decide +kernel
theorem dX0_meet_7 : decode cX0_meet 7 = .ok (.iload_n 2, 1) := by decide +kernel
theorem dX0_meet_8 : decode cX0_meet 8 = .ok (.invokestatic 45, 3) := by decide +kernel
theorem dX0_meet_11 : decode cX0_meet 11 = .ok (.ifCond .ne 5, 3) := by decide +kernel
theorem dX0_meet_14 : decode cX0_meet 14 = .ok (.iconst (-1), 1) := by decide +kernel
theorem dX0_meet_15 : decode cX0_meet 15 = .ok (.ireturn, 1) := by decide +kernel
theorem dX0_meet_16 : decode cX0_meet 16 = .ok (.iload_n 3, 1) := by decide +kernel
theorem dX0_meet_17 : decode cX0_meet 17 = .ok (.ifCond .lt 9, 3) := by decide +kernel
theorem dX0_meet_20 : decode cX0_meet 20 = .ok (.iload_n 3, 1) := by decide +kernel
theorem dX0_meet_21 : decode cX0_meet 21 = .ok (.bipush 40, 2) := by decide +kernel
theorem dX0_meet_23 : decode cX0_meet 23 = .ok (.if_icmp .le 6, 3) := by decide +kernel
theorem dX0_meet_26 : decode cX0_meet 26 = .ok (.bipush (-2), 2) := by decide +kernel
theorem dX0_meet_28 : decode cX0_meet 28 = .ok (.ireturn, 1) := by decide +kernel
theorem dX0_meet_29 : decode cX0_meet 29 = .ok (.aload_n 0, 1) := by decide +kernel
theorem dX0_meet_30 : decode cX0_meet 30 = .ok (.iload_n 1, 1) := by decide +kernel
theorem dX0_meet_31 : decode cX0_meet 31 = .ok (.iload_n 3, 1) := by decide +kernel
theorem dX0_meet_32 : decode cX0_meet 32 = .ok (.invokevirtual 69, 3) := by decide +kernel
theorem dX0_meet_35 : decode cX0_meet 35 = .ok (.aload_n 0, 1) := by decide +kernel
theorem dX0_meet_36 : decode cX0_meet 36 = .ok (.iload_n 2, 1) := by decide +kernel
theorem dX0_meet_37 : decode cX0_meet 37 = .ok (.iload_n 3, 1) := by decide +kernel
theorem dX0_meet_38 : decode cX0_meet 38 = .ok (.invokevirtual 69, 3) := by decide +kernel
theorem dX0_meet_41 : decode cX0_meet 41 = .ok (.land, 1) := by decide +kernel
theorem dX0_meet_42 : decode cX0_meet 42 = .ok (.lconst 0, 1) := by decide +kernel
theorem dX0_meet_43 : decode cX0_meet 43 = .ok (.lcmp, 1) := by decide +kernel
theorem dX0_meet_44 : decode cX0_meet 44 = .ok (.ifCond .eq 7, 3) := by decide +kernel
theorem dX0_meet_47 : decode cX0_meet 47 = .ok (.iconst 1, 1) := by decide +kernel
theorem dX0_meet_48 : decode cX0_meet 48 = .ok (.goto 4, 3) := by decide +kernel
theorem dX0_meet_51 : decode cX0_meet 51 = .ok (.iconst 0, 1) := by decide +kernel
theorem dX0_meet_52 : decode cX0_meet 52 = .ok (.ireturn, 1) := by decide +kernel
end
section
set_option maxRecDepth 100000
theorem q14 : (Jvm.Cond.initialized "LoopVersioner") ∈ lw_all := lw_g (lw_at lw_m1 1 rfl) rfl
theorem q17 : (Jvm.Cond.instantiable "LoopVersioner" (13 : Nat)) ∈ lw_all := lw_g (lw_at lw_m1 4 rfl) rfl
theorem q19 : (Jvm.Cond.instanceMethod ({ cls := "LoopVersioner", name := "<init>", desc := "()V" } : Jvm.MethodName)) ∈ lw_all := lw_g (lw_at lw_m1 6 rfl) rfl
theorem q20 : (Jvm.Cond.code ({ cls := "LoopVersioner", name := "<init>", desc := "()V" } : Jvm.MethodName) prog_1_method_1_code (1 : Nat) (Option.none : Option Jvm.ClassFile.FieldType)) ∈ lw_all := lw_g (lw_at lw_m1 7 rfl) rfl
theorem q21 : (Jvm.Cond.methodLink "LoopVersioner" (1 : Nat) ({ cls := "java/lang/Object", name := "<init>", desc := "()V" } : Jvm.MethodName)) ∈ lw_all := lw_g (lw_at lw_m1 8 rfl) rfl
theorem q24 : (Jvm.Cond.fieldLink "LoopVersioner" (7 : Nat) "LoopVersioner" "memory" "[I") ∈ lw_all := lw_g (lw_at lw_m1 11 rfl) rfl
theorem q25 : (Jvm.Cond.fieldLink "LoopVersioner" (13 : Nat) "LoopVersioner" "bases" "[I") ∈ lw_all := lw_g (lw_at lw_m1 12 rfl) rfl
theorem q26 : (Jvm.Cond.fieldLink "LoopVersioner" (16 : Nat) "LoopVersioner" "ops" "[I") ∈ lw_all := lw_g (lw_at lw_m1 13 rfl) rfl
theorem q27 : (Jvm.Cond.fieldLink "LoopVersioner" (19 : Nat) "LoopVersioner" "targets" "[I") ∈ lw_all := lw_g (lw_at lw_m1 14 rfl) rfl
theorem q28 : (Jvm.Cond.fieldLink "LoopVersioner" (22 : Nat) "LoopVersioner" "sources" "[I") ∈ lw_all := lw_g (lw_at lw_m1 15 rfl) rfl
theorem q29 : (Jvm.Cond.fieldLink "LoopVersioner" (25 : Nat) "LoopVersioner" "seconds" "[I") ∈ lw_all := lw_g (lw_at lw_m1 16 rfl) rfl
theorem q30 : (Jvm.Cond.fieldLink "LoopVersioner" (28 : Nat) "LoopVersioner" "laneA" "[I") ∈ lw_all := lw_g (lw_at lw_m1 17 rfl) rfl
theorem q31 : (Jvm.Cond.fieldLink "LoopVersioner" (31 : Nat) "LoopVersioner" "laneB" "[I") ∈ lw_all := lw_g (lw_at lw_m1 18 rfl) rfl
theorem q32 : (Jvm.Cond.fieldLink "LoopVersioner" (34 : Nat) "LoopVersioner" "usedRef" "[I") ∈ lw_all := lw_g (lw_at lw_m1 19 rfl) rfl
theorem q33 : (Jvm.Cond.fieldLink "LoopVersioner" (37 : Nat) "LoopVersioner" "usedWrites" "[Z") ∈ lw_all := lw_g (lw_at lw_m1 20 rfl) rfl
theorem q34 : (Jvm.Cond.fieldLink "LoopVersioner" (41 : Nat) "LoopVersioner" "count" "I") ∈ lw_all := lw_g (lw_at lw_m1 21 rfl) rfl
theorem q35 : (Jvm.Cond.fieldLink "LoopVersioner" (92 : Nat) "LoopVersioner" "used" "I") ∈ lw_all := lw_g (lw_at lw_m1 22 rfl) rfl
theorem q36 : (Jvm.Cond.fieldLink "LoopVersioner" (62 : Nat) "LoopVersioner" "sum" "I") ∈ lw_all := lw_g (lw_at lw_m1 23 rfl) rfl
theorem q37 : (Jvm.Cond.laysFinal "LoopVersioner" "LoopVersioner" "memory" "[I") ∈ lw_all := lw_g (lw_at lw_m1 24 rfl) rfl
theorem q38 : (Jvm.Cond.soleField "LoopVersioner" "memory") ∈ lw_all := lw_g (lw_at lw_m1 25 rfl) rfl
theorem q39 : (Jvm.Cond.laysFinal "LoopVersioner" "LoopVersioner" "bases" "[I") ∈ lw_all := lw_g (lw_at lw_m1 26 rfl) rfl
theorem q40 : (Jvm.Cond.soleField "LoopVersioner" "bases") ∈ lw_all := lw_g (lw_at lw_m1 27 rfl) rfl
theorem q41 : (Jvm.Cond.laysFinal "LoopVersioner" "LoopVersioner" "ops" "[I") ∈ lw_all := lw_g (lw_at lw_m1 28 rfl) rfl
theorem q42 : (Jvm.Cond.soleField "LoopVersioner" "ops") ∈ lw_all := lw_g (lw_at lw_m1 29 rfl) rfl
theorem q43 : (Jvm.Cond.laysFinal "LoopVersioner" "LoopVersioner" "targets" "[I") ∈ lw_all := lw_g (lw_at lw_m1 30 rfl) rfl
theorem q44 : (Jvm.Cond.soleField "LoopVersioner" "targets") ∈ lw_all := lw_g (lw_at lw_m1 31 rfl) rfl
theorem q45 : (Jvm.Cond.laysFinal "LoopVersioner" "LoopVersioner" "sources" "[I") ∈ lw_all := lw_g (lw_at lw_m1 32 rfl) rfl
theorem q46 : (Jvm.Cond.soleField "LoopVersioner" "sources") ∈ lw_all := lw_g (lw_at lw_m1 33 rfl) rfl
theorem q47 : (Jvm.Cond.laysFinal "LoopVersioner" "LoopVersioner" "seconds" "[I") ∈ lw_all := lw_g (lw_at lw_m1 34 rfl) rfl
theorem q48 : (Jvm.Cond.soleField "LoopVersioner" "seconds") ∈ lw_all := lw_g (lw_at lw_m1 35 rfl) rfl
theorem q49 : (Jvm.Cond.laysFinal "LoopVersioner" "LoopVersioner" "laneA" "[I") ∈ lw_all := lw_g (lw_at lw_m1 36 rfl) rfl
theorem q50 : (Jvm.Cond.soleField "LoopVersioner" "laneA") ∈ lw_all := lw_g (lw_at lw_m1 37 rfl) rfl
theorem q51 : (Jvm.Cond.laysFinal "LoopVersioner" "LoopVersioner" "laneB" "[I") ∈ lw_all := lw_g (lw_at lw_m1 38 rfl) rfl
theorem q52 : (Jvm.Cond.soleField "LoopVersioner" "laneB") ∈ lw_all := lw_g (lw_at lw_m1 39 rfl) rfl
theorem q53 : (Jvm.Cond.laysFinal "LoopVersioner" "LoopVersioner" "usedRef" "[I") ∈ lw_all := lw_g (lw_at lw_m1 40 rfl) rfl
theorem q54 : (Jvm.Cond.soleField "LoopVersioner" "usedRef") ∈ lw_all := lw_g (lw_at lw_m1 41 rfl) rfl
theorem q55 : (Jvm.Cond.laysFinal "LoopVersioner" "LoopVersioner" "usedWrites" "[Z") ∈ lw_all := lw_g (lw_at lw_m1 42 rfl) rfl
theorem q56 : (Jvm.Cond.soleField "LoopVersioner" "usedWrites") ∈ lw_all := lw_g (lw_at lw_m1 43 rfl) rfl
theorem q57 : (Jvm.Cond.lays "LoopVersioner" "LoopVersioner" "count" "I") ∈ lw_all := lw_g (lw_at lw_m1 44 rfl) rfl
theorem q58 : (Jvm.Cond.soleField "LoopVersioner" "count") ∈ lw_all := lw_g (lw_at lw_m1 45 rfl) rfl
theorem q59 : (Jvm.Cond.lays "LoopVersioner" "LoopVersioner" "used" "I") ∈ lw_all := lw_g (lw_at lw_m1 46 rfl) rfl
theorem q60 : (Jvm.Cond.soleField "LoopVersioner" "used") ∈ lw_all := lw_g (lw_at lw_m1 47 rfl) rfl
theorem q61 : (Jvm.Cond.lays "LoopVersioner" "LoopVersioner" "sum" "I") ∈ lw_all := lw_g (lw_at lw_m1 48 rfl) rfl
theorem q62 : (Jvm.Cond.soleField "LoopVersioner" "sum") ∈ lw_all := lw_g (lw_at lw_m1 49 rfl) rfl
theorem q63 : (Jvm.Cond.superclass "LoopVersioner" "java/lang/Object") ∈ lw_all := lw_g (lw_at lw_m1 50 rfl) rfl
theorem q67 : (Jvm.Cond.instanceMethod ({ cls := "LoopVersioner", name := "statement", desc := "(IIII)I" } : Jvm.MethodName)) ∈ lw_all := lw_g (lw_at lw_m1 54 rfl) rfl
theorem q68 : (Jvm.Cond.selects "LoopVersioner" ({ cls := "LoopVersioner", name := "statement", desc := "(IIII)I" } : Jvm.MethodName) ({ cls := "LoopVersioner", name := "statement", desc := "(IIII)I" } : Jvm.MethodName)) ∈ lw_all := lw_g (lw_at lw_m1 55 rfl) rfl
theorem q69 : (Jvm.Cond.code ({ cls := "LoopVersioner", name := "statement", desc := "(IIII)I" } : Jvm.MethodName) prog_1_method_2_code (5 : Nat) (Option.some Jvm.ClassFile.FieldType.int)) ∈ lw_all := lw_g (lw_at lw_m1 56 rfl) rfl
theorem q70 : (Jvm.Cond.methodLink "LoopVersioner" (45 : Nat) ({ cls := "LoopVersioner", name := "isRef", desc := "(I)Z" } : Jvm.MethodName)) ∈ lw_all := lw_g (lw_at lw_m1 57 rfl) rfl
theorem q71 : (Jvm.Cond.static ({ cls := "LoopVersioner", name := "isRef", desc := "(I)Z" } : Jvm.MethodName)) ∈ lw_all := lw_g (lw_at lw_m1 58 rfl) rfl
theorem q72 : (Jvm.Cond.code ({ cls := "LoopVersioner", name := "isRef", desc := "(I)Z" } : Jvm.MethodName) prog_1_method_17_code (1 : Nat) (Option.some Jvm.ClassFile.FieldType.boolean)) ∈ lw_all := lw_g (lw_at lw_m1 59 rfl) rfl
theorem q73 : (Jvm.Cond.methodLink "LoopVersioner" (49 : Nat) ({ cls := "LoopVersioner", name := "takesTwo", desc := "(I)Z" } : Jvm.MethodName)) ∈ lw_all := lw_g (lw_at lw_m1 60 rfl) rfl
theorem q74 : (Jvm.Cond.static ({ cls := "LoopVersioner", name := "takesTwo", desc := "(I)Z" } : Jvm.MethodName)) ∈ lw_all := lw_g (lw_at lw_m1 61 rfl) rfl
theorem q75 : (Jvm.Cond.code ({ cls := "LoopVersioner", name := "takesTwo", desc := "(I)Z" } : Jvm.MethodName) prog_1_method_18_code (1 : Nat) (Option.some Jvm.ClassFile.FieldType.boolean)) ∈ lw_all := lw_g (lw_at lw_m1 62 rfl) rfl
theorem q77 : (Jvm.Cond.instanceMethod ({ cls := "LoopVersioner", name := "retract", desc := "()I" } : Jvm.MethodName)) ∈ lw_all := lw_g (lw_at lw_m1 64 rfl) rfl
theorem q78 : (Jvm.Cond.selects "LoopVersioner" ({ cls := "LoopVersioner", name := "retract", desc := "()I" } : Jvm.MethodName) ({ cls := "LoopVersioner", name := "retract", desc := "()I" } : Jvm.MethodName)) ∈ lw_all := lw_g (lw_at lw_m1 65 rfl) rfl
theorem q79 : (Jvm.Cond.code ({ cls := "LoopVersioner", name := "retract", desc := "()I" } : Jvm.MethodName) prog_1_method_3_code (1 : Nat) (Option.some Jvm.ClassFile.FieldType.int)) ∈ lw_all := lw_g (lw_at lw_m1 66 rfl) rfl
theorem q81 : (Jvm.Cond.instanceMethod ({ cls := "LoopVersioner", name := "clear", desc := "()I" } : Jvm.MethodName)) ∈ lw_all := lw_g (lw_at lw_m1 68 rfl) rfl
theorem q82 : (Jvm.Cond.selects "LoopVersioner" ({ cls := "LoopVersioner", name := "clear", desc := "()I" } : Jvm.MethodName) ({ cls := "LoopVersioner", name := "clear", desc := "()I" } : Jvm.MethodName)) ∈ lw_all := lw_g (lw_at lw_m1 69 rfl) rfl
theorem q83 : (Jvm.Cond.code ({ cls := "LoopVersioner", name := "clear", desc := "()I" } : Jvm.MethodName) prog_1_method_4_code (2 : Nat) (Option.some Jvm.ClassFile.FieldType.int)) ∈ lw_all := lw_g (lw_at lw_m1 70 rfl) rfl
theorem q85 : (Jvm.Cond.instanceMethod ({ cls := "LoopVersioner", name := "statements", desc := "()I" } : Jvm.MethodName)) ∈ lw_all := lw_g (lw_at lw_m1 72 rfl) rfl
theorem q86 : (Jvm.Cond.selects "LoopVersioner" ({ cls := "LoopVersioner", name := "statements", desc := "()I" } : Jvm.MethodName) ({ cls := "LoopVersioner", name := "statements", desc := "()I" } : Jvm.MethodName)) ∈ lw_all := lw_g (lw_at lw_m1 73 rfl) rfl
theorem q87 : (Jvm.Cond.code ({ cls := "LoopVersioner", name := "statements", desc := "()I" } : Jvm.MethodName) prog_1_method_5_code (1 : Nat) (Option.some Jvm.ClassFile.FieldType.int)) ∈ lw_all := lw_g (lw_at lw_m1 74 rfl) rfl
theorem q89 : (Jvm.Cond.instanceMethod ({ cls := "LoopVersioner", name := "base", desc := "(II)I" } : Jvm.MethodName)) ∈ lw_all := lw_g (lw_at lw_m1 76 rfl) rfl
theorem q90 : (Jvm.Cond.selects "LoopVersioner" ({ cls := "LoopVersioner", name := "base", desc := "(II)I" } : Jvm.MethodName) ({ cls := "LoopVersioner", name := "base", desc := "(II)I" } : Jvm.MethodName)) ∈ lw_all := lw_g (lw_at lw_m1 77 rfl) rfl
theorem q91 : (Jvm.Cond.code ({ cls := "LoopVersioner", name := "base", desc := "(II)I" } : Jvm.MethodName) prog_1_method_6_code (4 : Nat) (Option.some Jvm.ClassFile.FieldType.int)) ∈ lw_all := lw_g (lw_at lw_m1 78 rfl) rfl
theorem q93 : (Jvm.Cond.instanceMethod ({ cls := "LoopVersioner", name := "run", desc := "(I)I" } : Jvm.MethodName)) ∈ lw_all := lw_g (lw_at lw_m1 80 rfl) rfl
theorem q94 : (Jvm.Cond.selects "LoopVersioner" ({ cls := "LoopVersioner", name := "run", desc := "(I)I" } : Jvm.MethodName) ({ cls := "LoopVersioner", name := "run", desc := "(I)I" } : Jvm.MethodName)) ∈ lw_all := lw_g (lw_at lw_m1 81 rfl) rfl
theorem q95 : (Jvm.Cond.code ({ cls := "LoopVersioner", name := "run", desc := "(I)I" } : Jvm.MethodName) prog_1_method_7_code (4 : Nat) (Option.some Jvm.ClassFile.FieldType.int)) ∈ lw_all := lw_g (lw_at lw_m1 82 rfl) rfl
theorem q96 : (Jvm.Cond.methodLink "LoopVersioner" (52 : Nat) ({ cls := "LoopVersioner", name := "isSafe", desc := "(I)Z" } : Jvm.MethodName)) ∈ lw_all := lw_g (lw_at lw_m1 83 rfl) rfl
theorem q97 : (Jvm.Cond.privateMethod ({ cls := "LoopVersioner", name := "isSafe", desc := "(I)Z" } : Jvm.MethodName)) ∈ lw_tbl := lw_at lw_m1 84 rfl
theorem q98 : (Jvm.Cond.instanceMethod ({ cls := "LoopVersioner", name := "isSafe", desc := "(I)Z" } : Jvm.MethodName)) ∈ lw_all := lw_g (lw_at lw_m1 85 rfl) rfl
theorem q99 : (Jvm.Cond.code ({ cls := "LoopVersioner", name := "isSafe", desc := "(I)Z" } : Jvm.MethodName) prog_1_method_26_code (5 : Nat) (Option.some Jvm.ClassFile.FieldType.boolean)) ∈ lw_all := lw_g (lw_at lw_m1 86 rfl) rfl
theorem q100 : (Jvm.Cond.methodLink "LoopVersioner" (99 : Nat) ({ cls := "LoopVersioner", name := "listUses", desc := "()V" } : Jvm.MethodName)) ∈ lw_all := lw_g (lw_at lw_m1 87 rfl) rfl
theorem q101 : (Jvm.Cond.privateMethod ({ cls := "LoopVersioner", name := "listUses", desc := "()V" } : Jvm.MethodName)) ∈ lw_tbl := lw_at lw_m1 88 rfl
theorem q102 : (Jvm.Cond.instanceMethod ({ cls := "LoopVersioner", name := "listUses", desc := "()V" } : Jvm.MethodName)) ∈ lw_all := lw_g (lw_at lw_m1 89 rfl) rfl
theorem q103 : (Jvm.Cond.code ({ cls := "LoopVersioner", name := "listUses", desc := "()V" } : Jvm.MethodName) prog_1_method_24_code (2 : Nat) (Option.none : Option Jvm.ClassFile.FieldType)) ∈ lw_all := lw_g (lw_at lw_m1 90 rfl) rfl
theorem q104 : (Jvm.Cond.methodLink "LoopVersioner" (95 : Nat) ({ cls := "LoopVersioner", name := "use", desc := "(IZ)V" } : Jvm.MethodName)) ∈ lw_all := lw_g (lw_at lw_m1 91 rfl) rfl
theorem q105 : (Jvm.Cond.privateMethod ({ cls := "LoopVersioner", name := "use", desc := "(IZ)V" } : Jvm.MethodName)) ∈ lw_tbl := lw_at lw_m1 92 rfl
theorem q106 : (Jvm.Cond.instanceMethod ({ cls := "LoopVersioner", name := "use", desc := "(IZ)V" } : Jvm.MethodName)) ∈ lw_all := lw_g (lw_at lw_m1 93 rfl) rfl
theorem q107 : (Jvm.Cond.code ({ cls := "LoopVersioner", name := "use", desc := "(IZ)V" } : Jvm.MethodName) prog_1_method_25_code (3 : Nat) (Option.none : Option Jvm.ClassFile.FieldType)) ∈ lw_all := lw_g (lw_at lw_m1 94 rfl) rfl
theorem q108 : (Jvm.Cond.methodLink "LoopVersioner" (77 : Nat) ({ cls := "LoopVersioner", name := "startOf", desc := "(I)I" } : Jvm.MethodName)) ∈ lw_all := lw_g (lw_at lw_m1 95 rfl) rfl
theorem q109 : (Jvm.Cond.privateMethod ({ cls := "LoopVersioner", name := "startOf", desc := "(I)I" } : Jvm.MethodName)) ∈ lw_tbl := lw_at lw_m1 96 rfl
theorem q110 : (Jvm.Cond.instanceMethod ({ cls := "LoopVersioner", name := "startOf", desc := "(I)I" } : Jvm.MethodName)) ∈ lw_all := lw_g (lw_at lw_m1 97 rfl) rfl
theorem q111 : (Jvm.Cond.code ({ cls := "LoopVersioner", name := "startOf", desc := "(I)I" } : Jvm.MethodName) prog_1_method_20_code (2 : Nat) (Option.some Jvm.ClassFile.FieldType.int)) ∈ lw_all := lw_g (lw_at lw_m1 98 rfl) rfl
theorem q112 : (Jvm.Cond.methodLink "LoopVersioner" (81 : Nat) ({ cls := "LoopVersioner", name := "strideOf", desc := "(I)I" } : Jvm.MethodName)) ∈ lw_all := lw_g (lw_at lw_m1 99 rfl) rfl
theorem q113 : (Jvm.Cond.static ({ cls := "LoopVersioner", name := "strideOf", desc := "(I)I" } : Jvm.MethodName)) ∈ lw_all := lw_g (lw_at lw_m1 100 rfl) rfl
theorem q114 : (Jvm.Cond.code ({ cls := "LoopVersioner", name := "strideOf", desc := "(I)I" } : Jvm.MethodName) prog_1_method_19_code (1 : Nat) (Option.some Jvm.ClassFile.FieldType.int)) ∈ lw_all := lw_g (lw_at lw_m1 101 rfl) rfl
theorem q115 : (Jvm.Cond.methodLink "LoopVersioner" (102 : Nat) ({ cls := "LoopVersioner", name := "mayClash", desc := "(III)Z" } : Jvm.MethodName)) ∈ lw_all := lw_g (lw_at lw_m1 102 rfl) rfl
theorem q116 : (Jvm.Cond.privateMethod ({ cls := "LoopVersioner", name := "mayClash", desc := "(III)Z" } : Jvm.MethodName)) ∈ lw_tbl := lw_at lw_m1 103 rfl
theorem q117 : (Jvm.Cond.instanceMethod ({ cls := "LoopVersioner", name := "mayClash", desc := "(III)Z" } : Jvm.MethodName)) ∈ lw_all := lw_g (lw_at lw_m1 104 rfl) rfl
theorem q118 : (Jvm.Cond.code ({ cls := "LoopVersioner", name := "mayClash", desc := "(III)Z" } : Jvm.MethodName) prog_1_method_27_code (17 : Nat) (Option.some Jvm.ClassFile.FieldType.boolean)) ∈ lw_all := lw_g (lw_at lw_m1 105 rfl) rfl
theorem q119 : (Jvm.Cond.methodLink "LoopVersioner" (55 : Nat) ({ cls := "LoopVersioner", name := "fourRounds", desc := "(II)V" } : Jvm.MethodName)) ∈ lw_all := lw_g (lw_at lw_m1 106 rfl) rfl
theorem q120 : (Jvm.Cond.privateMethod ({ cls := "LoopVersioner", name := "fourRounds", desc := "(II)V" } : Jvm.MethodName)) ∈ lw_tbl := lw_at lw_m1 107 rfl
theorem q121 : (Jvm.Cond.instanceMethod ({ cls := "LoopVersioner", name := "fourRounds", desc := "(II)V" } : Jvm.MethodName)) ∈ lw_all := lw_g (lw_at lw_m1 108 rfl) rfl
theorem q122 : (Jvm.Cond.code ({ cls := "LoopVersioner", name := "fourRounds", desc := "(II)V" } : Jvm.MethodName) prog_1_method_29_code (6 : Nat) (Option.none : Option Jvm.ClassFile.FieldType)) ∈ lw_all := lw_g (lw_at lw_m1 109 rfl) rfl
theorem q123 : (Jvm.Cond.methodLink "LoopVersioner" (106 : Nat) ({ cls := "LoopVersioner", name := "result", desc := "(IIII)I" } : Jvm.MethodName)) ∈ lw_all := lw_g (lw_at lw_m1 110 rfl) rfl
theorem q124 : (Jvm.Cond.static ({ cls := "LoopVersioner", name := "result", desc := "(IIII)I" } : Jvm.MethodName)) ∈ lw_all := lw_g (lw_at lw_m1 111 rfl) rfl
theorem q125 : (Jvm.Cond.code ({ cls := "LoopVersioner", name := "result", desc := "(IIII)I" } : Jvm.MethodName) prog_1_method_30_code (4 : Nat) (Option.some Jvm.ClassFile.FieldType.int)) ∈ lw_all := lw_g (lw_at lw_m1 112 rfl) rfl
theorem q126 : (Jvm.Cond.methodLink "LoopVersioner" (59 : Nat) ({ cls := "LoopVersioner", name := "oneRound", desc := "(II)V" } : Jvm.MethodName)) ∈ lw_all := lw_g (lw_at lw_m1 113 rfl) rfl
theorem q127 : (Jvm.Cond.privateMethod ({ cls := "LoopVersioner", name := "oneRound", desc := "(II)V" } : Jvm.MethodName)) ∈ lw_tbl := lw_at lw_m1 114 rfl
theorem q128 : (Jvm.Cond.instanceMethod ({ cls := "LoopVersioner", name := "oneRound", desc := "(II)V" } : Jvm.MethodName)) ∈ lw_all := lw_g (lw_at lw_m1 115 rfl) rfl
theorem q129 : (Jvm.Cond.code ({ cls := "LoopVersioner", name := "oneRound", desc := "(II)V" } : Jvm.MethodName) prog_1_method_28_code (5 : Nat) (Option.none : Option Jvm.ClassFile.FieldType)) ∈ lw_all := lw_g (lw_at lw_m1 116 rfl) rfl
theorem q130 : (Jvm.Cond.methodLink "LoopVersioner" (65 : Nat) ({ cls := "LoopVersioner", name := "cell", desc := "(II)I" } : Jvm.MethodName)) ∈ lw_all := lw_g (lw_at lw_m1 117 rfl) rfl
theorem q131 : (Jvm.Cond.privateMethod ({ cls := "LoopVersioner", name := "cell", desc := "(II)I" } : Jvm.MethodName)) ∈ lw_tbl := lw_at lw_m1 118 rfl
theorem q132 : (Jvm.Cond.instanceMethod ({ cls := "LoopVersioner", name := "cell", desc := "(II)I" } : Jvm.MethodName)) ∈ lw_all := lw_g (lw_at lw_m1 119 rfl) rfl
theorem q133 : (Jvm.Cond.code ({ cls := "LoopVersioner", name := "cell", desc := "(II)I" } : Jvm.MethodName) prog_1_method_21_code (3 : Nat) (Option.some Jvm.ClassFile.FieldType.int)) ∈ lw_all := lw_g (lw_at lw_m1 120 rfl) rfl
theorem q135 : (Jvm.Cond.instanceMethod ({ cls := "LoopVersioner", name := "poke", desc := "(II)I" } : Jvm.MethodName)) ∈ lw_all := lw_g (lw_at lw_m1 122 rfl) rfl
theorem q136 : (Jvm.Cond.selects "LoopVersioner" ({ cls := "LoopVersioner", name := "poke", desc := "(II)I" } : Jvm.MethodName) ({ cls := "LoopVersioner", name := "poke", desc := "(II)I" } : Jvm.MethodName)) ∈ lw_all := lw_g (lw_at lw_m1 123 rfl) rfl
theorem q137 : (Jvm.Cond.code ({ cls := "LoopVersioner", name := "poke", desc := "(II)I" } : Jvm.MethodName) prog_1_method_8_code (3 : Nat) (Option.some Jvm.ClassFile.FieldType.int)) ∈ lw_all := lw_g (lw_at lw_m1 124 rfl) rfl
theorem q139 : (Jvm.Cond.instanceMethod ({ cls := "LoopVersioner", name := "fill", desc := "(IIII)I" } : Jvm.MethodName)) ∈ lw_all := lw_g (lw_at lw_m1 126 rfl) rfl
theorem q140 : (Jvm.Cond.selects "LoopVersioner" ({ cls := "LoopVersioner", name := "fill", desc := "(IIII)I" } : Jvm.MethodName) ({ cls := "LoopVersioner", name := "fill", desc := "(IIII)I" } : Jvm.MethodName)) ∈ lw_all := lw_g (lw_at lw_m1 127 rfl) rfl
theorem q141 : (Jvm.Cond.code ({ cls := "LoopVersioner", name := "fill", desc := "(IIII)I" } : Jvm.MethodName) prog_1_method_9_code (6 : Nat) (Option.some Jvm.ClassFile.FieldType.int)) ∈ lw_all := lw_g (lw_at lw_m1 128 rfl) rfl
theorem q143 : (Jvm.Cond.instanceMethod ({ cls := "LoopVersioner", name := "peek", desc := "(I)I" } : Jvm.MethodName)) ∈ lw_all := lw_g (lw_at lw_m1 130 rfl) rfl
theorem q144 : (Jvm.Cond.selects "LoopVersioner" ({ cls := "LoopVersioner", name := "peek", desc := "(I)I" } : Jvm.MethodName) ({ cls := "LoopVersioner", name := "peek", desc := "(I)I" } : Jvm.MethodName)) ∈ lw_all := lw_g (lw_at lw_m1 131 rfl) rfl
theorem q145 : (Jvm.Cond.code ({ cls := "LoopVersioner", name := "peek", desc := "(I)I" } : Jvm.MethodName) prog_1_method_10_code (2 : Nat) (Option.some Jvm.ClassFile.FieldType.int)) ∈ lw_all := lw_g (lw_at lw_m1 132 rfl) rfl
theorem q147 : (Jvm.Cond.instanceMethod ({ cls := "LoopVersioner", name := "total", desc := "()I" } : Jvm.MethodName)) ∈ lw_all := lw_g (lw_at lw_m1 134 rfl) rfl
theorem q148 : (Jvm.Cond.selects "LoopVersioner" ({ cls := "LoopVersioner", name := "total", desc := "()I" } : Jvm.MethodName) ({ cls := "LoopVersioner", name := "total", desc := "()I" } : Jvm.MethodName)) ∈ lw_all := lw_g (lw_at lw_m1 135 rfl) rfl
theorem q149 : (Jvm.Cond.code ({ cls := "LoopVersioner", name := "total", desc := "()I" } : Jvm.MethodName) prog_1_method_11_code (1 : Nat) (Option.some Jvm.ClassFile.FieldType.int)) ∈ lw_all := lw_g (lw_at lw_m1 136 rfl) rfl
theorem q151 : (Jvm.Cond.instanceMethod ({ cls := "LoopVersioner", name := "setTotal", desc := "(I)I" } : Jvm.MethodName)) ∈ lw_all := lw_g (lw_at lw_m1 138 rfl) rfl
theorem q152 : (Jvm.Cond.selects "LoopVersioner" ({ cls := "LoopVersioner", name := "setTotal", desc := "(I)I" } : Jvm.MethodName) ({ cls := "LoopVersioner", name := "setTotal", desc := "(I)I" } : Jvm.MethodName)) ∈ lw_all := lw_g (lw_at lw_m1 139 rfl) rfl
theorem q153 : (Jvm.Cond.code ({ cls := "LoopVersioner", name := "setTotal", desc := "(I)I" } : Jvm.MethodName) prog_1_method_12_code (3 : Nat) (Option.some Jvm.ClassFile.FieldType.int)) ∈ lw_all := lw_g (lw_at lw_m1 140 rfl) rfl
theorem q155 : (Jvm.Cond.instanceMethod ({ cls := "LoopVersioner", name := "digest", desc := "()I" } : Jvm.MethodName)) ∈ lw_all := lw_g (lw_at lw_m1 142 rfl) rfl
theorem q156 : (Jvm.Cond.selects "LoopVersioner" ({ cls := "LoopVersioner", name := "digest", desc := "()I" } : Jvm.MethodName) ({ cls := "LoopVersioner", name := "digest", desc := "()I" } : Jvm.MethodName)) ∈ lw_all := lw_g (lw_at lw_m1 143 rfl) rfl
theorem q157 : (Jvm.Cond.code ({ cls := "LoopVersioner", name := "digest", desc := "()I" } : Jvm.MethodName) prog_1_method_13_code (3 : Nat) (Option.some Jvm.ClassFile.FieldType.int)) ∈ lw_all := lw_g (lw_at lw_m1 144 rfl) rfl
theorem q159 : (Jvm.Cond.instanceMethod ({ cls := "LoopVersioner", name := "cellOf", desc := "(II)I" } : Jvm.MethodName)) ∈ lw_all := lw_g (lw_at lw_m1 146 rfl) rfl
theorem q160 : (Jvm.Cond.selects "LoopVersioner" ({ cls := "LoopVersioner", name := "cellOf", desc := "(II)I" } : Jvm.MethodName) ({ cls := "LoopVersioner", name := "cellOf", desc := "(II)I" } : Jvm.MethodName)) ∈ lw_all := lw_g (lw_at lw_m1 147 rfl) rfl
theorem q161 : (Jvm.Cond.code ({ cls := "LoopVersioner", name := "cellOf", desc := "(II)I" } : Jvm.MethodName) prog_1_method_14_code (3 : Nat) (Option.some Jvm.ClassFile.FieldType.int)) ∈ lw_all := lw_g (lw_at lw_m1 148 rfl) rfl
theorem q163 : (Jvm.Cond.instanceMethod ({ cls := "LoopVersioner", name := "spread", desc := "(II)I" } : Jvm.MethodName)) ∈ lw_all := lw_g (lw_at lw_m1 150 rfl) rfl
theorem q164 : (Jvm.Cond.selects "LoopVersioner" ({ cls := "LoopVersioner", name := "spread", desc := "(II)I" } : Jvm.MethodName) ({ cls := "LoopVersioner", name := "spread", desc := "(II)I" } : Jvm.MethodName)) ∈ lw_all := lw_g (lw_at lw_m1 151 rfl) rfl
theorem q165 : (Jvm.Cond.code ({ cls := "LoopVersioner", name := "spread", desc := "(II)I" } : Jvm.MethodName) prog_1_method_15_code (5 : Nat) (Option.some Jvm.ClassFile.FieldType.int)) ∈ lw_all := lw_g (lw_at lw_m1 152 rfl) rfl
theorem q166 : (Jvm.Cond.methodLink "LoopVersioner" (69 : Nat) ({ cls := "LoopVersioner", name := "cellSet", desc := "(II)J" } : Jvm.MethodName)) ∈ lw_all := lw_g (lw_at lw_m1 153 rfl) rfl
theorem q167 : (Jvm.Cond.privateMethod ({ cls := "LoopVersioner", name := "cellSet", desc := "(II)J" } : Jvm.MethodName)) ∈ lw_tbl := lw_at lw_m1 154 rfl
theorem q168 : (Jvm.Cond.instanceMethod ({ cls := "LoopVersioner", name := "cellSet", desc := "(II)J" } : Jvm.MethodName)) ∈ lw_all := lw_g (lw_at lw_m1 155 rfl) rfl
theorem q169 : (Jvm.Cond.code ({ cls := "LoopVersioner", name := "cellSet", desc := "(II)J" } : Jvm.MethodName) prog_1_method_22_code (7 : Nat) (Option.some Jvm.ClassFile.FieldType.long)) ∈ lw_all := lw_g (lw_at lw_m1 156 rfl) rfl
theorem q170 : (Jvm.Cond.methodLink "LoopVersioner" (73 : Nat) ({ cls := "LoopVersioner", name := "ones", desc := "(J)I" } : Jvm.MethodName)) ∈ lw_all := lw_g (lw_at lw_m1 157 rfl) rfl
theorem q171 : (Jvm.Cond.static ({ cls := "LoopVersioner", name := "ones", desc := "(J)I" } : Jvm.MethodName)) ∈ lw_all := lw_g (lw_at lw_m1 158 rfl) rfl
theorem q172 : (Jvm.Cond.code ({ cls := "LoopVersioner", name := "ones", desc := "(J)I" } : Jvm.MethodName) prog_1_method_23_code (4 : Nat) (Option.some Jvm.ClassFile.FieldType.int)) ∈ lw_all := lw_g (lw_at lw_m1 159 rfl) rfl
theorem q173 : (Jvm.Cond.constantLong "LoopVersioner" (84 : Nat) (6148914691236517205 : Int64)) ∈ lw_all := lw_g (lw_at lw_m1 160 rfl) rfl
theorem q174 : (Jvm.Cond.constantLong "LoopVersioner" (86 : Nat) (3689348814741910323 : Int64)) ∈ lw_all := lw_g (lw_at lw_m1 161 rfl) rfl
theorem q175 : (Jvm.Cond.constantLong "LoopVersioner" (88 : Nat) (1085102592571150095 : Int64)) ∈ lw_all := lw_g (lw_at lw_m1 162 rfl) rfl
theorem q176 : (Jvm.Cond.constantLong "LoopVersioner" (90 : Nat) (72340172838076673 : Int64)) ∈ lw_all := lw_g (lw_at lw_m1 163 rfl) rfl
theorem q178 : (Jvm.Cond.instanceMethod ({ cls := "LoopVersioner", name := "meet", desc := "(III)I" } : Jvm.MethodName)) ∈ lw_all := lw_g (lw_at lw_m1 165 rfl) rfl
theorem q179 : (Jvm.Cond.selects "LoopVersioner" ({ cls := "LoopVersioner", name := "meet", desc := "(III)I" } : Jvm.MethodName) ({ cls := "LoopVersioner", name := "meet", desc := "(III)I" } : Jvm.MethodName)) ∈ lw_all := lw_g (lw_at lw_m1 166 rfl) rfl
theorem q180 : (Jvm.Cond.code ({ cls := "LoopVersioner", name := "meet", desc := "(III)I" } : Jvm.MethodName) prog_1_method_16_code (4 : Nat) (Option.some Jvm.ClassFile.FieldType.int)) ∈ lw_all := lw_g (lw_at lw_m1 167 rfl) rfl
theorem in_X0 : ∀ w ∈ wsX00, w ∈ lw_all := lw_in wsX00 [37, 39, 41, 43, 45, 47, 49, 51, 53, 55, 57, 59, 61] (by decide +kernel) (by decide +kernel)

/-! java/lang/Object -/
set_option maxRecDepth 100000
def RJ0 : String := "java/lang/Object"
abbrev cJ0_init : ByteArray := object_method_1_code
def yJ0_init : MethodName := ⟨RJ0, "<init>", "()V"⟩
theorem dJ0_init_0 : decode cJ0_init 0 = .ok (.return_, 1) := by decide +kernel
theorem q22 : (Jvm.Cond.instanceMethod ({ cls := "java/lang/Object", name := "<init>", desc := "()V" } : Jvm.MethodName)) ∈ lw_all := lw_g (lw_at lw_m1 9 rfl) rfl
theorem q23 : (Jvm.Cond.code ({ cls := "java/lang/Object", name := "<init>", desc := "()V" } : Jvm.MethodName) object_method_1_code (1 : Nat) (Option.none : Option Jvm.ClassFile.FieldType)) ∈ lw_all := lw_g (lw_at lw_m1 10 rfl) rfl
theorem q64 : (Jvm.Cond.arrayClass Jvm.ClassFile.FieldType.int) ∈ lw_all := lw_g (lw_at lw_m1 51 rfl) rfl
set_option maxRecDepth 100000
theorem q65 : (Jvm.Cond.arrayClass Jvm.ClassFile.FieldType.boolean) ∈ lw_all := lw_g (lw_at lw_m1 52 rfl) rfl
theorem q13 : (Jvm.Cond.initialized "LoopVersionerLaw") ∈ lw_all := lw_g (lw_at lw_m1 0 rfl) rfl
set_option maxRecDepth 100000
theorem q16 : (Jvm.Cond.classLink "LoopVersionerLaw" (7 : Nat) "LoopVersioner") ∈ lw_all := lw_g (lw_at lw_m1 3 rfl) rfl
theorem q18 : (Jvm.Cond.methodLink "LoopVersionerLaw" (9 : Nat) ({ cls := "LoopVersioner", name := "<init>", desc := "()V" } : Jvm.MethodName)) ∈ lw_all := lw_g (lw_at lw_m1 5 rfl) rfl
theorem q66 : (Jvm.Cond.methodLink "LoopVersionerLaw" (13 : Nat) ({ cls := "LoopVersioner", name := "statement", desc := "(IIII)I" } : Jvm.MethodName)) ∈ lw_all := lw_g (lw_at lw_m1 53 rfl) rfl
theorem q76 : (Jvm.Cond.methodLink "LoopVersionerLaw" (18 : Nat) ({ cls := "LoopVersioner", name := "retract", desc := "()I" } : Jvm.MethodName)) ∈ lw_all := lw_g (lw_at lw_m1 63 rfl) rfl
theorem q80 : (Jvm.Cond.methodLink "LoopVersionerLaw" (23 : Nat) ({ cls := "LoopVersioner", name := "clear", desc := "()I" } : Jvm.MethodName)) ∈ lw_all := lw_g (lw_at lw_m1 67 rfl) rfl
theorem q84 : (Jvm.Cond.methodLink "LoopVersionerLaw" (27 : Nat) ({ cls := "LoopVersioner", name := "statements", desc := "()I" } : Jvm.MethodName)) ∈ lw_all := lw_g (lw_at lw_m1 71 rfl) rfl
theorem q88 : (Jvm.Cond.methodLink "LoopVersionerLaw" (31 : Nat) ({ cls := "LoopVersioner", name := "base", desc := "(II)I" } : Jvm.MethodName)) ∈ lw_all := lw_g (lw_at lw_m1 75 rfl) rfl
theorem q92 : (Jvm.Cond.methodLink "LoopVersionerLaw" (36 : Nat) ({ cls := "LoopVersioner", name := "run", desc := "(I)I" } : Jvm.MethodName)) ∈ lw_all := lw_g (lw_at lw_m1 79 rfl) rfl
theorem q134 : (Jvm.Cond.methodLink "LoopVersionerLaw" (41 : Nat) ({ cls := "LoopVersioner", name := "poke", desc := "(II)I" } : Jvm.MethodName)) ∈ lw_all := lw_g (lw_at lw_m1 121 rfl) rfl
theorem q138 : (Jvm.Cond.methodLink "LoopVersionerLaw" (45 : Nat) ({ cls := "LoopVersioner", name := "fill", desc := "(IIII)I" } : Jvm.MethodName)) ∈ lw_all := lw_g (lw_at lw_m1 125 rfl) rfl
theorem q142 : (Jvm.Cond.methodLink "LoopVersionerLaw" (49 : Nat) ({ cls := "LoopVersioner", name := "peek", desc := "(I)I" } : Jvm.MethodName)) ∈ lw_all := lw_g (lw_at lw_m1 129 rfl) rfl
theorem q146 : (Jvm.Cond.methodLink "LoopVersionerLaw" (53 : Nat) ({ cls := "LoopVersioner", name := "total", desc := "()I" } : Jvm.MethodName)) ∈ lw_all := lw_g (lw_at lw_m1 133 rfl) rfl
theorem q150 : (Jvm.Cond.methodLink "LoopVersionerLaw" (57 : Nat) ({ cls := "LoopVersioner", name := "setTotal", desc := "(I)I" } : Jvm.MethodName)) ∈ lw_all := lw_g (lw_at lw_m1 137 rfl) rfl
theorem q154 : (Jvm.Cond.methodLink "LoopVersionerLaw" (61 : Nat) ({ cls := "LoopVersioner", name := "digest", desc := "()I" } : Jvm.MethodName)) ∈ lw_all := lw_g (lw_at lw_m1 141 rfl) rfl
theorem q158 : (Jvm.Cond.methodLink "LoopVersionerLaw" (65 : Nat) ({ cls := "LoopVersioner", name := "cellOf", desc := "(II)I" } : Jvm.MethodName)) ∈ lw_all := lw_g (lw_at lw_m1 145 rfl) rfl
theorem q162 : (Jvm.Cond.methodLink "LoopVersionerLaw" (69 : Nat) ({ cls := "LoopVersioner", name := "spread", desc := "(II)I" } : Jvm.MethodName)) ∈ lw_all := lw_g (lw_at lw_m1 149 rfl) rfl
theorem q177 : (Jvm.Cond.methodLink "LoopVersionerLaw" (73 : Nat) ({ cls := "LoopVersioner", name := "meet", desc := "(III)I" } : Jvm.MethodName)) ∈ lw_all := lw_g (lw_at lw_m1 164 rfl) rfl
theorem q181 : (Jvm.Cond.classLink "LoopVersionerLaw" (10 : Nat) "LoopVersionerModel") ∈ lw_all := lw_g (lw_at lw_m1 168 rfl) rfl
theorem q183 : (Jvm.Cond.methodLink "LoopVersionerLaw" (12 : Nat) ({ cls := "LoopVersionerModel", name := "<init>", desc := "()V" } : Jvm.MethodName)) ∈ lw_all := lw_g (lw_at lw_m1 170 rfl) rfl
theorem q212 : (Jvm.Cond.methodLink "LoopVersionerLaw" (17 : Nat) ({ cls := "LoopVersionerModel", name := "statement", desc := "(IIII)I" } : Jvm.MethodName)) ∈ lw_all := lw_g (lw_at lw_m1 199 rfl) rfl
theorem q220 : (Jvm.Cond.methodLink "LoopVersionerLaw" (22 : Nat) ({ cls := "LoopVersionerModel", name := "retract", desc := "()I" } : Jvm.MethodName)) ∈ lw_all := lw_g (lw_at lw_m1 207 rfl) rfl
theorem q224 : (Jvm.Cond.methodLink "LoopVersionerLaw" (26 : Nat) ({ cls := "LoopVersionerModel", name := "clear", desc := "()I" } : Jvm.MethodName)) ∈ lw_all := lw_g (lw_at lw_m1 211 rfl) rfl
theorem q228 : (Jvm.Cond.methodLink "LoopVersionerLaw" (30 : Nat) ({ cls := "LoopVersionerModel", name := "statements", desc := "()I" } : Jvm.MethodName)) ∈ lw_all := lw_g (lw_at lw_m1 215 rfl) rfl
theorem q232 : (Jvm.Cond.methodLink "LoopVersionerLaw" (35 : Nat) ({ cls := "LoopVersionerModel", name := "base", desc := "(II)I" } : Jvm.MethodName)) ∈ lw_all := lw_g (lw_at lw_m1 219 rfl) rfl
theorem q236 : (Jvm.Cond.methodLink "LoopVersionerLaw" (40 : Nat) ({ cls := "LoopVersionerModel", name := "run", desc := "(I)I" } : Jvm.MethodName)) ∈ lw_all := lw_g (lw_at lw_m1 223 rfl) rfl
theorem q248 : (Jvm.Cond.methodLink "LoopVersionerLaw" (44 : Nat) ({ cls := "LoopVersionerModel", name := "poke", desc := "(II)I" } : Jvm.MethodName)) ∈ lw_all := lw_g (lw_at lw_m1 235 rfl) rfl
theorem q252 : (Jvm.Cond.methodLink "LoopVersionerLaw" (48 : Nat) ({ cls := "LoopVersionerModel", name := "fill", desc := "(IIII)I" } : Jvm.MethodName)) ∈ lw_all := lw_g (lw_at lw_m1 239 rfl) rfl
theorem q256 : (Jvm.Cond.methodLink "LoopVersionerLaw" (52 : Nat) ({ cls := "LoopVersionerModel", name := "peek", desc := "(I)I" } : Jvm.MethodName)) ∈ lw_all := lw_g (lw_at lw_m2 3 rfl) rfl
theorem q260 : (Jvm.Cond.methodLink "LoopVersionerLaw" (56 : Nat) ({ cls := "LoopVersionerModel", name := "total", desc := "()I" } : Jvm.MethodName)) ∈ lw_all := lw_g (lw_at lw_m2 7 rfl) rfl
theorem q264 : (Jvm.Cond.methodLink "LoopVersionerLaw" (60 : Nat) ({ cls := "LoopVersionerModel", name := "setTotal", desc := "(I)I" } : Jvm.MethodName)) ∈ lw_all := lw_g (lw_at lw_m2 11 rfl) rfl
theorem q268 : (Jvm.Cond.methodLink "LoopVersionerLaw" (64 : Nat) ({ cls := "LoopVersionerModel", name := "digest", desc := "()I" } : Jvm.MethodName)) ∈ lw_all := lw_g (lw_at lw_m2 15 rfl) rfl
theorem q272 : (Jvm.Cond.methodLink "LoopVersionerLaw" (68 : Nat) ({ cls := "LoopVersionerModel", name := "cellOf", desc := "(II)I" } : Jvm.MethodName)) ∈ lw_all := lw_g (lw_at lw_m2 19 rfl) rfl
theorem q276 : (Jvm.Cond.methodLink "LoopVersionerLaw" (72 : Nat) ({ cls := "LoopVersionerModel", name := "spread", desc := "(II)I" } : Jvm.MethodName)) ∈ lw_all := lw_g (lw_at lw_m2 23 rfl) rfl
theorem q284 : (Jvm.Cond.methodLink "LoopVersionerLaw" (77 : Nat) ({ cls := "LoopVersionerModel", name := "meet", desc := "(III)I" } : Jvm.MethodName)) ∈ lw_all := lw_g (lw_at lw_m2 31 rfl) rfl
end
section
/-! LoopVersionerModel -/
set_option maxRecDepth 100000
def RX1 : String := "LoopVersionerModel"
def TX1 : u_T := fun k => match k with
  | 0 => ("LoopVersionerModel", "memory", "[I", false)
  | 1 => ("LoopVersionerModel", "base", "[I", false)
  | 2 => ("LoopVersionerModel", "total", "I", false)
  | 3 => ("LoopVersionerModel", "count", "I", false)
  | 4 => ("LoopVersionerModel", "op", "[I", false)
  | 5 => ("LoopVersionerModel", "target", "[I", false)
  | 6 => ("LoopVersionerModel", "source", "[I", false)
  | _ => ("LoopVersionerModel", "second", "[I", false)
def tyX1 : Nat → FieldType := fun k => match k with
  | 0 => .array .int
  | 1 => .array .int
  | 2 => .int
  | 3 => .int
  | 4 => .array .int
  | 5 => .array .int
  | 6 => .array .int
  | _ => .array .int
abbrev wsX10 : List Cond := u_ws RX1 TX1 8
theorem nmX1 : ∀ a, a < 8 → ∀ b, b < 8 → a ≠ b → (TX1 a).2.1 ≠ (TX1 b).2.1 := by decide +kernel
theorem tyX1_ok : ∀ k, k < 8 → parseFieldDescriptor (TX1 k).2.2.1 = some (tyX1 k) := by decide +kernel
abbrev cX1_init : ByteArray := prog_3_method_1_code
def yX1_init : MethodName := ⟨RX1, "<init>", "()V"⟩
theorem dX1_init_0 : decode cX1_init 0 = .ok (.aload_n 0, 1) := by decide +kernel
theorem dX1_init_1 : decode cX1_init 1 = .ok (.invokespecial 1, 3) := by decide +kernel
theorem dX1_init_4 : decode cX1_init 4 = .ok (.aload_n 0, 1) := by decide +kernel
theorem dX1_init_5 : decode cX1_init 5 = .ok (.bipush 64, 2) := by decide +kernel
theorem dX1_init_7 : decode cX1_init 7 = .ok (.newarray .int, 2) := by decide +kernel
theorem dX1_init_9 : decode cX1_init 9 = .ok (.putfield 7, 3) := by decide +kernel
theorem dX1_init_12 : decode cX1_init 12 = .ok (.aload_n 0, 1) := by decide +kernel
theorem dX1_init_13 : decode cX1_init 13 = .ok (.iconst 4, 1) := by decide +kernel
theorem dX1_init_14 : decode cX1_init 14 = .ok (.newarray .int, 2) := by decide +kernel
theorem dX1_init_16 : decode cX1_init 16 = .ok (.putfield 13, 3) := by decide +kernel
theorem dX1_init_19 : decode cX1_init 19 = .ok (.aload_n 0, 1) := by decide +kernel
theorem dX1_init_20 : decode cX1_init 20 = .ok (.iconst 5, 1) := by decide +kernel
theorem dX1_init_21 : decode cX1_init 21 = .ok (.newarray .int, 2) := by decide +kernel
theorem dX1_init_23 : decode cX1_init 23 = .ok (.putfield 16, 3) := by decide +kernel
theorem dX1_init_26 : decode cX1_init 26 = .ok (.aload_n 0, 1) := by decide +kernel
theorem dX1_init_27 : decode cX1_init 27 = .ok (.iconst 5, 1) := by decide +kernel
theorem dX1_init_28 : decode cX1_init 28 = .ok (.newarray .int, 2) := by decide +kernel
theorem dX1_init_30 : decode cX1_init 30 = .ok (.putfield 19, 3) := by decide +kernel
theorem dX1_init_33 : decode cX1_init 33 = .ok (.aload_n 0, 1) := by decide +kernel
theorem dX1_init_34 : decode cX1_init 34 = .ok (.iconst 5, 1) := by decide +kernel
theorem dX1_init_35 : decode cX1_init 35 = .ok (.newarray .int, 2) := by decide +kernel
theorem dX1_init_37 : decode cX1_init 37 = .ok (.putfield 22, 3) := by decide +kernel
theorem dX1_init_40 : decode cX1_init 40 = .ok (.aload_n 0, 1) := by decide +kernel
theorem dX1_init_41 : decode cX1_init 41 = .ok (.iconst 5, 1) := by decide +kernel
theorem dX1_init_42 : decode cX1_init 42 = .ok (.newarray .int, 2) := by decide +kernel
theorem dX1_init_44 : decode cX1_init 44 = .ok (.putfield 25, 3) := by decide +kernel
theorem dX1_init_47 : decode cX1_init 47 = .ok (.return_, 1) := by decide +kernel
abbrev cX1_statement : ByteArray := prog_3_method_3_code
def yX1_statement : MethodName := ⟨RX1, "statement", "(IIII)I"⟩
theorem dX1_statement_0 : decode cX1_statement 0 = .ok (.iload_n 1, 1) := by decide +kernel
theorem dX1_statement_1 : decode cX1_statement 1 = .ok (.ifCond .lt 9, 3) := by decide +kernel
theorem dX1_statement_4 : decode cX1_statement 4 = .ok (.iload_n 1, 1) := by decide +kernel
theorem dX1_statement_5 : decode cX1_statement 5 = .ok (.bipush 7, 2) := by decide +kernel
theorem dX1_statement_7 : decode cX1_statement 7 = .ok (.if_icmp .le 5, 3) := by decide +kernel
theorem dX1_statement_10 : decode cX1_statement 10 = .ok (.iconst (-1), 1) := by decide +kernel
theorem dX1_statement_11 : decode cX1_statement 11 = .ok (.ireturn, 1) := by decide +kernel
theorem dX1_statement_12 : decode cX1_statement 12 = .ok (.aload_n 0, 1) := by decide +kernel
theorem dX1_statement_13 : decode cX1_statement 13 = .ok (.iload_n 2, 1) := by decide +kernel
theorem dX1_statement_14 : decode cX1_statement 14 = .ok (.invokevirtual 28, 3) := by decide +kernel
theorem dX1_statement_17 : decode cX1_statement 17 = .ok (.ifCond .eq 6, 3) := by decide +kernel
theorem dX1_statement_20 : decode cX1_statement 20 = .ok (.bipush (-2), 2) := by decide +kernel
theorem dX1_statement_22 : decode cX1_statement 22 = .ok (.ireturn, 1) := by decide +kernel
theorem dX1_statement_23 : decode cX1_statement 23 = .ok (.aload_n 0, 1) := by decide +kernel
theorem dX1_statement_24 : decode cX1_statement 24 = .ok (.iload_n 3, 1) := by decide +kernel
theorem dX1_statement_25 : decode cX1_statement 25 = .ok (.invokevirtual 28, 3) := by decide +kernel
theorem dX1_statement_28 : decode cX1_statement 28 = .ok (.ifCond .eq 6, 3) := by decide +kernel
theorem dX1_statement_31 : decode cX1_statement 31 = .ok (.bipush (-3), 2) := by decide +kernel
theorem dX1_statement_33 : decode cX1_statement 33 = .ok (.ireturn, 1) := by decide +kernel
theorem dX1_statement_34 : decode cX1_statement 34 = .ok (.iload_n 1, 1) := by decide +kernel
theorem dX1_statement_35 : decode cX1_statement 35 = .ok (.iconst 1, 1) := by decide +kernel
theorem dX1_statement_36 : decode cX1_statement 36 = .ok (.if_icmp .lt 20, 3) := by decide +kernel
theorem dX1_statement_39 : decode cX1_statement 39 = .ok (.iload_n 1, 1) := by decide +kernel
theorem dX1_statement_40 : decode cX1_statement 40 = .ok (.iconst 4, 1) := by decide +kernel
theorem dX1_statement_41 : decode cX1_statement 41 = .ok (.if_icmp .gt 15, 3) := by decide +kernel
theorem dX1_statement_44 : decode cX1_statement 44 = .ok (.aload_n 0, 1) := by decide +kernel
theorem dX1_statement_45 : decode cX1_statement 45 = .ok (.iload 4, 2) := by decide +kernel
theorem dX1_statement_47 : decode cX1_statement 47 = .ok (.invokevirtual 28, 3) := by decide +kernel
theorem dX1_statement_50 : decode cX1_statement 50 = .ok (.ifCond .eq 6, 3) := by decide +kernel
theorem dX1_statement_53 : decode cX1_statement 53 = .ok (.bipush (-4), 2) := by decide +kernel
theorem dX1_statement_55 : decode cX1_statement 55 = .ok (.ireturn, 1) := by decide +kernel
theorem dX1_statement_56 : decode cX1_statement 56 = .ok (.aload_n 0, 1) := by decide +kernel
theorem dX1_statement_57 : decode cX1_statement 57 = .ok (.getfield 32, 3) := by decide +kernel
theorem dX1_statement_60 : decode cX1_statement 60 = .ok (.istore 5, 2) := by decide +kernel
theorem dX1_statement_62 : decode cX1_statement 62 = .ok (.iload 5, 2) := by decide +kernel
theorem dX1_statement_64 : decode cX1_statement 64 = .ok (.iconst 5, 1) := by decide +kernel
theorem dX1_statement_65 : decode cX1_statement 65 = .ok (.if_icmp .lt 6, 3) := by decide +kernel
theorem dX1_statement_68 : decode cX1_statement 68 = .ok (.bipush (-5), 2) := by decide +kernel
theorem dX1_statement_70 : decode cX1_statement 70 = .ok (.ireturn, 1) := by decide +kernel
theorem dX1_statement_71 : decode cX1_statement 71 = .ok (.aload_n 0, 1) := by decide +kernel
theorem dX1_statement_72 : decode cX1_statement 72 = .ok (.getfield 16, 3) := by decide +kernel
theorem dX1_statement_75 : decode cX1_statement 75 = .ok (.iload 5, 2) := by decide +kernel
theorem dX1_statement_77 : decode cX1_statement 77 = .ok (.iload_n 1, 1) := by decide +kernel
theorem dX1_statement_78 : decode cX1_statement 78 = .ok (.iastore, 1) := by decide +kernel
theorem dX1_statement_79 : decode cX1_statement 79 = .ok (.aload_n 0, 1) := by decide +kernel
theorem dX1_statement_80 : decode cX1_statement 80 = .ok (.getfield 19, 3) := by decide +kernel
theorem dX1_statement_83 : decode cX1_statement 83 = .ok (.iload 5, 2) := by decide +kernel
theorem dX1_statement_85 : decode cX1_statement 85 = .ok (.iload_n 2, 1) := by decide +kernel
theorem dX1_statement_86 : decode cX1_statement 86 = .ok (.iastore, 1) := by decide +kernel
theorem dX1_statement_87 : decode cX1_statement 87 = .ok (.aload_n 0, 1) := by decide +kernel
theorem dX1_statement_88 : decode cX1_statement 88 = .ok (.getfield 22, 3) := by decide +kernel
theorem dX1_statement_91 : decode cX1_statement 91 = .ok (.iload 5, 2) := by decide +kernel
theorem dX1_statement_93 : decode cX1_statement 93 = .ok (.iload_n 3, 1) := by decide +kernel
theorem dX1_statement_94 : decode cX1_statement 94 = .ok (.iastore, 1) := by decide +kernel
theorem dX1_statement_95 : decode cX1_statement 95 = .ok (.aload_n 0, 1) := by decide +kernel
theorem dX1_statement_96 : decode cX1_statement 96 = .ok (.getfield 25, 3) := by decide +kernel
theorem dX1_statement_99 : decode cX1_statement 99 = .ok (.iload 5, 2) := by decide +kernel
theorem dX1_statement_101 : decode cX1_statement 101 = .ok (.iload 4, 2) := by decide +kernel
theorem dX1_statement_103 : decode cX1_statement 103 = .ok (.iastore, 1) := by decide +kernel
theorem dX1_statement_104 : decode cX1_statement 104 = .ok (.aload_n 0, 1) := by decide +kernel
theorem dX1_statement_105 : decode cX1_statement 105 = .ok (.iload 5, 2) := by decide +kernel
theorem dX1_statement_107 : decode cX1_statement 107 = .ok (.iconst 1, 1) := by decide +kernel
theorem dX1_statement_108 : decode cX1_statement 108 = .ok (.iadd, 1) := by decide +kernel
theorem dX1_statement_109 : decode cX1_statement 109 = .ok (.putfield 32, 3) := by decide +kernel
theorem dX1_statement_112 : decode cX1_statement 112 = .ok (.aload_n 0, 1) := by decide +kernel
theorem dX1_statement_113 : decode cX1_statement 113 = .ok (.getfield 32, 3) := by decide +kernel
theorem dX1_statement_116 : decode cX1_statement 116 = .ok (.ireturn, 1) := by decide +kernel
abbrev cX1_badRef : ByteArray := prog_3_method_2_code
def yX1_badRef : MethodName := ⟨RX1, "badRef", "(I)Z"⟩
theorem dX1_badRef_0 : decode cX1_badRef 0 = .ok (.iload_n 1, 1) := by decide +kernel
theorem dX1_badRef_1 : decode cX1_badRef 1 = .ok (.ifCond .lt 22, 3) := by decide +kernel
theorem dX1_badRef_4 : decode cX1_badRef 4 = .ok (.iload_n 1, 1) := by decide +kernel
theorem dX1_badRef_5 : decode cX1_badRef 5 = .ok (.sipush 511, 3) := by decide +kernel
theorem dX1_badRef_8 : decode cX1_badRef 8 = .ok (.if_icmp .gt 15, 3) := by decide +kernel
theorem dX1_badRef_11 : decode cX1_badRef 11 = .ok (.iload_n 1, 1) := by decide +kernel
theorem dX1_badRef_12 : decode cX1_badRef 12 = .ok (.bipush 16, 2) := by decide +kernel
theorem dX1_badRef_14 : decode cX1_badRef 14 = .ok (.idiv, 1) := by decide +kernel
theorem dX1_badRef_15 : decode cX1_badRef 15 = .ok (.bipush 8, 2) := by decide +kernel
theorem dX1_badRef_17 : decode cX1_badRef 17 = .ok (.irem, 1) := by decide +kernel
theorem dX1_badRef_18 : decode cX1_badRef 18 = .ok (.bipush 7, 2) := by decide +kernel
theorem dX1_badRef_20 : decode cX1_badRef 20 = .ok (.if_icmp .ne 7, 3) := by decide +kernel
theorem dX1_badRef_23 : decode cX1_badRef 23 = .ok (.iconst 1, 1) := by decide +kernel
theorem dX1_badRef_24 : decode cX1_badRef 24 = .ok (.goto 4, 3) := by decide +kernel
theorem dX1_badRef_27 : decode cX1_badRef 27 = .ok (.iconst 0, 1) := by decide +kernel
theorem dX1_badRef_28 : decode cX1_badRef 28 = .ok (.ireturn, 1) := by decide +kernel
abbrev cX1_retract : ByteArray := prog_3_method_4_code
def yX1_retract : MethodName := ⟨RX1, "retract", "()I"⟩
theorem dX1_retract_0 : decode cX1_retract 0 = .ok (.aload_n 0, 1) := by decide +kernel
theorem dX1_retract_1 : decode cX1_retract 1 = .ok (.getfield 32, 3) := by decide +kernel
theorem dX1_retract_4 : decode cX1_retract 4 = .ok (.ifCond .ne 5, 3) := by decide +kernel
theorem dX1_retract_7 : decode cX1_retract 7 = .ok (.iconst (-1), 1) := by decide +kernel
theorem dX1_retract_8 : decode cX1_retract 8 = .ok (.ireturn, 1) := by decide +kernel
theorem dX1_retract_9 : decode cX1_retract 9 = .ok (.aload_n 0, 1) := by decide +kernel
theorem dX1_retract_10 : decode cX1_retract 10 = .ok (.dup, 1) := by decide +kernel
theorem dX1_retract_11 : decode cX1_retract 11 = .ok (.getfield 32, 3) := by decide +kernel
theorem dX1_retract_14 : decode cX1_retract 14 = .ok (.iconst 1, 1) := by decide +kernel
theorem dX1_retract_15 : decode cX1_retract 15 = .ok (.isub, 1) := by decide +kernel
theorem dX1_retract_16 : decode cX1_retract 16 = .ok (.putfield 32, 3) := by decide +kernel
theorem dX1_retract_19 : decode cX1_retract 19 = .ok (.aload_n 0, 1) := by decide +kernel
theorem dX1_retract_20 : decode cX1_retract 20 = .ok (.getfield 32, 3) := by decide +kernel
theorem dX1_retract_23 : decode cX1_retract 23 = .ok (.ireturn, 1) := by decide +kernel
abbrev cX1_clear : ByteArray := prog_3_method_5_code
def yX1_clear : MethodName := ⟨RX1, "clear", "()I"⟩
theorem dX1_clear_0 : decode cX1_clear 0 = .ok (.aload_n 0, 1) := by decide +kernel
theorem dX1_clear_1 : decode cX1_clear 1 = .ok (.getfield 32, 3) := by decide +kernel
theorem dX1_clear_4 : decode cX1_clear 4 = .ok (.istore_n 1, 1) := by decide +kernel
theorem dX1_clear_5 : decode cX1_clear 5 = .ok (.aload_n 0, 1) := by decide +kernel
theorem dX1_clear_6 : decode cX1_clear 6 = .ok (.iconst 0, 1) := by decide +kernel
theorem dX1_clear_7 : decode cX1_clear 7 = .ok (.putfield 32, 3) := by decide +kernel
theorem dX1_clear_10 : decode cX1_clear 10 = .ok (.iload_n 1, 1) := by decide +kernel
theorem dX1_clear_11 : decode cX1_clear 11 = .ok (.ireturn, 1) := by decide +kernel
abbrev cX1_statements : ByteArray := prog_3_method_6_code
def yX1_statements : MethodName := ⟨RX1, "statements", "()I"⟩
theorem dX1_statements_0 : decode cX1_statements 0 = .ok (.aload_n 0, 1) := by decide +kernel
theorem dX1_statements_1 : decode cX1_statements 1 = .ok (.getfield 32, 3) := by decide +kernel
theorem dX1_statements_4 : decode cX1_statements 4 = .ok (.ireturn, 1) := by decide +kernel
abbrev cX1_base : ByteArray := prog_3_method_7_code
def yX1_base : MethodName := ⟨RX1, "base", "(II)I"⟩
theorem dX1_base_0 : decode cX1_base 0 = .ok (.iload_n 1, 1) := by decide +kernel
theorem dX1_base_1 : decode cX1_base 1 = .ok (.ifCond .lt 8, 3) := by decide +kernel
theorem dX1_base_4 : decode cX1_base 4 = .ok (.iload_n 1, 1) := by decide +kernel
theorem dX1_base_5 : decode cX1_base 5 = .ok (.iconst 3, 1) := by decide +kernel
theorem dX1_base_6 : decode cX1_base 6 = .ok (.if_icmp .le 5, 3) := by decide +kernel
theorem dX1_base_9 : decode cX1_base 9 = .ok (.iconst (-1), 1) := by decide +kernel
theorem dX1_base_10 : decode cX1_base 10 = .ok (.ireturn, 1) := by decide +kernel
theorem dX1_base_11 : decode cX1_base 11 = .ok (.iload_n 2, 1) := by decide +kernel
theorem dX1_base_12 : decode cX1_base 12 = .ok (.ifCond .lt 9, 3) := by decide +kernel
theorem dX1_base_15 : decode cX1_base 15 = .ok (.iload_n 2, 1) := by decide +kernel
theorem dX1_base_16 : decode cX1_base 16 = .ok (.bipush 63, 2) := by decide +kernel
theorem dX1_base_18 : decode cX1_base 18 = .ok (.if_icmp .le 6, 3) := by decide +kernel
theorem dX1_base_21 : decode cX1_base 21 = .ok (.bipush (-2), 2) := by decide +kernel
theorem dX1_base_23 : decode cX1_base 23 = .ok (.ireturn, 1) := by decide +kernel
theorem dX1_base_24 : decode cX1_base 24 = .ok (.aload_n 0, 1) := by decide +kernel
theorem dX1_base_25 : decode cX1_base 25 = .ok (.getfield 13, 3) := by decide +kernel
theorem dX1_base_28 : decode cX1_base 28 = .ok (.iload_n 1, 1) := by decide +kernel
theorem dX1_base_29 : decode cX1_base 29 = .ok (.iaload, 1) := by decide +kernel
theorem dX1_base_30 : decode cX1_base 30 = .ok (.istore_n 3, 1) := by decide +kernel
theorem dX1_base_31 : decode cX1_base 31 = .ok (.aload_n 0, 1) := by decide +kernel
theorem dX1_base_32 : decode cX1_base 32 = .ok (.getfield 13, 3) := by decide +kernel
theorem dX1_base_35 : decode cX1_base 35 = .ok (.iload_n 1, 1) := by decide +kernel
theorem dX1_base_36 : decode cX1_base 36 = .ok (.iload_n 2, 1) := by decide +kernel
theorem dX1_base_37 : decode cX1_base 37 = .ok (.iastore, 1) := by decide +kernel
theorem dX1_base_38 : decode cX1_base 38 = .ok (.iload_n 3, 1) := by decide +kernel
theorem dX1_base_39 : decode cX1_base 39 = .ok (.ireturn, 1) := by decide +kernel
abbrev cX1_run : ByteArray := prog_3_method_10_code
def yX1_run : MethodName := ⟨RX1, "run", "(I)I"⟩
theorem dX1_run_0 : decode cX1_run 0 = .ok (.iload_n 1, 1) := by decide +kernel
theorem dX1_run_1 : decode cX1_run 1 = .ok (.ifCond .lt 9, 3) := by decide +kernel
theorem dX1_run_4 : decode cX1_run 4 = .ok (.iload_n 1, 1) := by decide +kernel
theorem dX1_run_5 : decode cX1_run 5 = .ok (.bipush 40, 2) := by decide +kernel
theorem dX1_run_7 : decode cX1_run 7 = .ok (.if_icmp .le 5, 3) := by decide +kernel
theorem dX1_run_10 : decode cX1_run 10 = .ok (.iconst (-1), 1) := by decide +kernel
theorem dX1_run_11 : decode cX1_run 11 = .ok (.ireturn, 1) := by decide +kernel
theorem dX1_run_12 : decode cX1_run 12 = .ok (.iconst 0, 1) := by decide +kernel
theorem dX1_run_13 : decode cX1_run 13 = .ok (.istore_n 2, 1) := by decide +kernel
theorem dX1_run_14 : decode cX1_run 14 = .ok (.iload_n 2, 1) := by decide +kernel
theorem dX1_run_15 : decode cX1_run 15 = .ok (.iload_n 1, 1) := by decide +kernel
theorem dX1_run_16 : decode cX1_run 16 = .ok (.if_icmp .ge 106, 3) := by decide +kernel
theorem dX1_run_19 : decode cX1_run 19 = .ok (.iconst 0, 1) := by decide +kernel
theorem dX1_run_20 : decode cX1_run 20 = .ok (.istore_n 3, 1) := by decide +kernel
theorem dX1_run_21 : decode cX1_run 21 = .ok (.iload_n 3, 1) := by decide +kernel
theorem dX1_run_22 : decode cX1_run 22 = .ok (.aload_n 0, 1) := by decide +kernel
theorem dX1_run_23 : decode cX1_run 23 = .ok (.getfield 32, 3) := by decide +kernel
theorem dX1_run_26 : decode cX1_run 26 = .ok (.if_icmp .ge 90, 3) := by decide +kernel
theorem dX1_run_29 : decode cX1_run 29 = .ok (.iload_n 3, 1) := by decide +kernel
theorem dX1_run_30 : decode cX1_run 30 = .ok (.iconst 5, 1) := by decide +kernel
theorem dX1_run_31 : decode cX1_run 31 = .ok (.if_icmp .ge 85, 3) := by decide +kernel
theorem dX1_run_34 : decode cX1_run 34 = .ok (.aload_n 0, 1) := by decide +kernel
theorem dX1_run_35 : decode cX1_run 35 = .ok (.getfield 16, 3) := by decide +kernel
theorem dX1_run_38 : decode cX1_run 38 = .ok (.iload_n 3, 1) := by decide +kernel
theorem dX1_run_39 : decode cX1_run 39 = .ok (.iaload, 1) := by decide +kernel
theorem dX1_run_40 : decode cX1_run 40 = .ok (.bipush 6, 2) := by decide +kernel
theorem dX1_run_42 : decode cX1_run 42 = .ok (.if_icmp .ne 42, 3) := by decide +kernel
theorem dX1_run_45 : decode cX1_run 45 = .ok (.aload_n 0, 1) := by decide +kernel
theorem dX1_run_46 : decode cX1_run 46 = .ok (.getfield 7, 3) := by decide +kernel
theorem dX1_run_49 : decode cX1_run 49 = .ok (.aload_n 0, 1) := by decide +kernel
theorem dX1_run_50 : decode cX1_run 50 = .ok (.aload_n 0, 1) := by decide +kernel
theorem dX1_run_51 : decode cX1_run 51 = .ok (.getfield 22, 3) := by decide +kernel
theorem dX1_run_54 : decode cX1_run 54 = .ok (.iload_n 3, 1) := by decide +kernel
theorem dX1_run_55 : decode cX1_run 55 = .ok (.iaload, 1) := by decide +kernel
theorem dX1_run_56 : decode cX1_run 56 = .ok (.iload_n 2, 1) := by decide +kernel
theorem dX1_run_57 : decode cX1_run 57 = .ok (.invokevirtual 36, 3) := by decide +kernel
theorem dX1_run_60 : decode cX1_run 60 = .ok (.iaload, 1) := by decide +kernel
theorem dX1_run_61 : decode cX1_run 61 = .ok (.istore 4, 2) := by decide +kernel
theorem dX1_run_63 : decode cX1_run 63 = .ok (.aload_n 0, 1) := by decide +kernel
theorem dX1_run_64 : decode cX1_run 64 = .ok (.dup, 1) := by decide +kernel
theorem dX1_run_65 : decode cX1_run 65 = .ok (.getfield 40, 3) := by decide +kernel
theorem dX1_run_68 : decode cX1_run 68 = .ok (.iload 4, 2) := by decide +kernel
theorem dX1_run_70 : decode cX1_run 70 = .ok (.aload_n 0, 1) := by decide +kernel
theorem dX1_run_71 : decode cX1_run 71 = .ok (.getfield 25, 3) := by decide +kernel
theorem dX1_run_74 : decode cX1_run 74 = .ok (.iload_n 3, 1) := by decide +kernel
theorem dX1_run_75 : decode cX1_run 75 = .ok (.iaload, 1) := by decide +kernel
theorem dX1_run_76 : decode cX1_run 76 = .ok (.imul, 1) := by decide +kernel
theorem dX1_run_77 : decode cX1_run 77 = .ok (.iadd, 1) := by decide +kernel
theorem dX1_run_78 : decode cX1_run 78 = .ok (.putfield 40, 3) := by decide +kernel
theorem dX1_run_81 : decode cX1_run 81 = .ok (.goto 29, 3) := by decide +kernel
theorem dX1_run_84 : decode cX1_run 84 = .ok (.aload_n 0, 1) := by decide +kernel
theorem dX1_run_85 : decode cX1_run 85 = .ok (.aload_n 0, 1) := by decide +kernel
theorem dX1_run_86 : decode cX1_run 86 = .ok (.getfield 19, 3) := by decide +kernel
theorem dX1_run_89 : decode cX1_run 89 = .ok (.iload_n 3, 1) := by decide +kernel
theorem dX1_run_90 : decode cX1_run 90 = .ok (.iaload, 1) := by decide +kernel
theorem dX1_run_91 : decode cX1_run 91 = .ok (.iload_n 2, 1) := by decide +kernel
theorem dX1_run_92 : decode cX1_run 92 = .ok (.invokevirtual 36, 3) := by decide +kernel
theorem dX1_run_95 : decode cX1_run 95 = .ok (.istore 4, 2) := by decide +kernel
theorem dX1_run_97 : decode cX1_run 97 = .ok (.aload_n 0, 1) := by decide +kernel
theorem dX1_run_98 : decode cX1_run 98 = .ok (.getfield 7, 3) := by decide +kernel
theorem dX1_run_101 : decode cX1_run 101 = .ok (.iload 4, 2) := by decide +kernel
theorem dX1_run_103 : decode cX1_run 103 = .ok (.aload_n 0, 1) := by decide +kernel
theorem dX1_run_104 : decode cX1_run 104 = .ok (.iload_n 3, 1) := by decide +kernel
theorem dX1_run_105 : decode cX1_run 105 = .ok (.iload_n 2, 1) := by decide +kernel
theorem dX1_run_106 : decode cX1_run 106 = .ok (.invokevirtual 43, 3) := by decide +kernel
theorem dX1_run_109 : decode cX1_run 109 = .ok (.iastore, 1) := by decide +kernel
theorem dX1_run_110 : decode cX1_run 110 = .ok (.iinc 3 1, 3) := by decide +kernel
theorem dX1_run_113 : decode cX1_run 113 = .ok (.goto (-92), 3) := by decide +kernel
theorem dX1_run_116 : decode cX1_run 116 = .ok (.iinc 2 1, 3) := by decide +kernel
theorem dX1_run_119 : decode cX1_run 119 = .ok (.goto (-105), 3) := by decide +kernel
theorem dX1_run_122 : decode cX1_run 122 = .ok (.aload_n 0, 1) := by decide +kernel
theorem dX1_run_123 : decode cX1_run 123 = .ok (.getfield 40, 3) := by decide +kernel
theorem dX1_run_126 : decode cX1_run 126 = .ok (.ireturn, 1) := by decide +kernel
abbrev cX1_place : ByteArray := prog_3_method_8_code
def yX1_place : MethodName := ⟨RX1, "place", "(II)I"⟩
theorem dX1_place_0 : decode cX1_place 0 = .ok (.iload_n 1, 1) := by decide +kernel
theorem dX1_place_1 : decode cX1_place 1 = .ok (.sipush 128, 3) := by decide +kernel
theorem dX1_place_4 : decode cX1_place 4 = .ok (.idiv, 1) := by decide +kernel
theorem dX1_place_5 : decode cX1_place 5 = .ok (.iconst 3, 1) := by decide +kernel
theorem dX1_place_6 : decode cX1_place 6 = .ok (.iand, 1) := by decide +kernel
theorem dX1_place_7 : decode cX1_place 7 = .ok (.istore_n 3, 1) := by decide +kernel
theorem dX1_place_8 : decode cX1_place 8 = .ok (.iload_n 1, 1) := by decide +kernel
theorem dX1_place_9 : decode cX1_place 9 = .ok (.bipush 16, 2) := by decide +kernel
theorem dX1_place_11 : decode cX1_place 11 = .ok (.idiv, 1) := by decide +kernel
theorem dX1_place_12 : decode cX1_place 12 = .ok (.bipush 8, 2) := by decide +kernel
theorem dX1_place_14 : decode cX1_place 14 = .ok (.irem, 1) := by decide +kernel
theorem dX1_place_15 : decode cX1_place 15 = .ok (.iconst 3, 1) := by decide +kernel
theorem dX1_place_16 : decode cX1_place 16 = .ok (.isub, 1) := by decide +kernel
theorem dX1_place_17 : decode cX1_place 17 = .ok (.istore 4, 2) := by decide +kernel
theorem dX1_place_19 : decode cX1_place 19 = .ok (.iload_n 1, 1) := by decide +kernel
theorem dX1_place_20 : decode cX1_place 20 = .ok (.bipush 16, 2) := by decide +kernel
theorem dX1_place_22 : decode cX1_place 22 = .ok (.irem, 1) := by decide +kernel
theorem dX1_place_23 : decode cX1_place 23 = .ok (.istore 5, 2) := by decide +kernel
theorem dX1_place_25 : decode cX1_place 25 = .ok (.aload_n 0, 1) := by decide +kernel
theorem dX1_place_26 : decode cX1_place 26 = .ok (.getfield 13, 3) := by decide +kernel
theorem dX1_place_29 : decode cX1_place 29 = .ok (.iload_n 3, 1) := by decide +kernel
theorem dX1_place_30 : decode cX1_place 30 = .ok (.iaload, 1) := by decide +kernel
theorem dX1_place_31 : decode cX1_place 31 = .ok (.iload 5, 2) := by decide +kernel
theorem dX1_place_33 : decode cX1_place 33 = .ok (.iadd, 1) := by decide +kernel
theorem dX1_place_34 : decode cX1_place 34 = .ok (.iload 4, 2) := by decide +kernel
theorem dX1_place_36 : decode cX1_place 36 = .ok (.iload_n 2, 1) := by decide +kernel
theorem dX1_place_37 : decode cX1_place 37 = .ok (.imul, 1) := by decide +kernel
theorem dX1_place_38 : decode cX1_place 38 = .ok (.iadd, 1) := by decide +kernel
theorem dX1_place_39 : decode cX1_place 39 = .ok (.bipush 63, 2) := by decide +kernel
theorem dX1_place_41 : decode cX1_place 41 = .ok (.iand, 1) := by decide +kernel
theorem dX1_place_42 : decode cX1_place 42 = .ok (.ireturn, 1) := by decide +kernel
abbrev cX1_result : ByteArray := prog_3_method_9_code
def yX1_result : MethodName := ⟨RX1, "result", "(II)I"⟩
theorem dX1_result_0 : decode cX1_result 0 = .ok (.aload_n 0, 1) := by decide +kernel
theorem dX1_result_1 : decode cX1_result 1 = .ok (.getfield 7, 3) := by decide +kernel
theorem dX1_result_4 : decode cX1_result 4 = .ok (.aload_n 0, 1) := by decide +kernel
theorem dX1_result_5 : decode cX1_result 5 = .ok (.aload_n 0, 1) := by decide +kernel
theorem dX1_result_6 : decode cX1_result 6 = .ok (.getfield 22, 3) := by decide +kernel
theorem dX1_result_9 : decode cX1_result 9 = .ok (.iload_n 1, 1) := by decide +kernel
theorem dX1_result_10 : decode cX1_result 10 = .ok (.iaload, 1) := by decide +kernel
theorem dX1_result_11 : decode cX1_result 11 = .ok (.iload_n 2, 1) := by decide +kernel
theorem dX1_result_12 : decode cX1_result 12 = .ok (.invokevirtual 36, 3) := by decide +kernel
theorem dX1_result_15 : decode cX1_result 15 = .ok (.iaload, 1) := by decide +kernel
theorem dX1_result_16 : decode cX1_result 16 = .ok (.istore_n 3, 1) := by decide +kernel
theorem dX1_result_17 : decode cX1_result 17 = .ok (.aload_n 0, 1) := by decide +kernel
theorem dX1_result_18 : decode cX1_result 18 = .ok (.getfield 25, 3) := by decide +kernel
theorem dX1_result_21 : decode cX1_result 21 = .ok (.iload_n 1, 1) := by decide +kernel
theorem dX1_result_22 : decode cX1_result 22 = .ok (.iaload, 1) := by decide +kernel
theorem dX1_result_23 : decode cX1_result 23 = .ok (.istore 4, 2) := by decide +kernel
theorem dX1_result_25 : decode cX1_result 25 = .ok (.aload_n 0, 1) := by decide +kernel
theorem dX1_result_26 : decode cX1_result 26 = .ok (.getfield 16, 3) := by decide +kernel
theorem dX1_result_29 : decode cX1_result 29 = .ok (.iload_n 1, 1) := by decide +kernel
theorem dX1_result_30 : decode cX1_result 30 = .ok (.iaload, 1) := by decide +kernel
theorem dX1_result_31 : decode cX1_result 31 = .ok (.ifCond .ne 5, 3) := by decide +kernel
theorem dX1_result_34 : decode cX1_result 34 = .ok (.iload_n 3, 1) := by decide +kernel
theorem dX1_result_35 : decode cX1_result 35 = .ok (.ireturn, 1) := by decide +kernel
theorem dX1_result_36 : decode cX1_result 36 = .ok (.aload_n 0, 1) := by decide +kernel
theorem dX1_result_37 : decode cX1_result 37 = .ok (.getfield 16, 3) := by decide +kernel
theorem dX1_result_40 : decode cX1_result 40 = .ok (.iload_n 1, 1) := by decide +kernel
theorem dX1_result_41 : decode cX1_result 41 = .ok (.iaload, 1) := by decide +kernel
theorem dX1_result_42 : decode cX1_result 42 = .ok (.iconst 5, 1) := by decide +kernel
theorem dX1_result_43 : decode cX1_result 43 = .ok (.if_icmp .ne 8, 3) := by decide +kernel
theorem dX1_result_46 : decode cX1_result 46 = .ok (.iload_n 3, 1) := by decide +kernel
theorem dX1_result_47 : decode cX1_result 47 = .ok (.iload 4, 2) := by decide +kernel
theorem dX1_result_49 : decode cX1_result 49 = .ok (.iadd, 1) := by decide +kernel
theorem dX1_result_50 : decode cX1_result 50 = .ok (.ireturn, 1) := by decide +kernel
theorem dX1_result_51 : decode cX1_result 51 = .ok (.aload_n 0, 1) := by decide +kernel
theorem dX1_result_52 : decode cX1_result 52 = .ok (.getfield 16, 3) := by decide +kernel
theorem dX1_result_55 : decode cX1_result 55 = .ok (.iload_n 1, 1) := by decide +kernel
theorem dX1_result_56 : decode cX1_result 56 = .ok (.iaload, 1) := by decide +kernel
theorem dX1_result_57 : decode cX1_result 57 = .ok (.bipush 7, 2) := by decide +kernel
theorem dX1_result_59 : decode cX1_result 59 = .ok (.if_icmp .ne 8, 3) := by decide +kernel
theorem dX1_result_62 : decode cX1_result 62 = .ok (.iload 4, 2) := by decide +kernel
theorem dX1_result_64 : decode cX1_result 64 = .ok (.iload_n 2, 1) := by decide +kernel
theorem dX1_result_65 : decode cX1_result 65 = .ok (.iadd, 1) := by decide +kernel
theorem dX1_result_66 : decode cX1_result 66 = .ok (.ireturn, 1) := by decide +kernel
theorem dX1_result_67 : decode cX1_result 67 = .ok (.aload_n 0, 1) := by decide +kernel
theorem dX1_result_68 : decode cX1_result 68 = .ok (.getfield 7, 3) := by decide +kernel
theorem dX1_result_71 : decode cX1_result 71 = .ok (.aload_n 0, 1) := by decide +kernel
theorem dX1_result_72 : decode cX1_result 72 = .ok (.iload 4, 2) := by decide +kernel
theorem dX1_result_74 : decode cX1_result 74 = .ok (.sipush 511, 3) := by decide +kernel
theorem dX1_result_77 : decode cX1_result 77 = .ok (.iand, 1) := by decide +kernel
theorem dX1_result_78 : decode cX1_result 78 = .ok (.iload_n 2, 1) := by decide +kernel
theorem dX1_result_79 : decode cX1_result 79 = .ok (.invokevirtual 36, 3) := by decide +kernel
theorem dX1_result_82 : decode cX1_result 82 = .ok (.iaload, 1) := by decide +kernel
theorem dX1_result_83 : decode cX1_result 83 = .ok (.istore 5, 2) := by decide +kernel
theorem dX1_result_85 : decode cX1_result 85 = .ok (.aload_n 0, 1) := by decide +kernel
theorem dX1_result_86 : decode cX1_result 86 = .ok (.getfield 16, 3) := by decide +kernel
theorem dX1_result_89 : decode cX1_result 89 = .ok (.iload_n 1, 1) := by decide +kernel
theorem dX1_result_90 : decode cX1_result 90 = .ok (.iaload, 1) := by decide +kernel
theorem dX1_result_91 : decode cX1_result 91 = .ok (.iconst 1, 1) := by decide +kernel
theorem dX1_result_92 : decode cX1_result 92 = .ok (.if_icmp .ne 8, 3) := by decide +kernel
theorem dX1_result_95 : decode cX1_result 95 = .ok (.iload_n 3, 1) := by decide +kernel
theorem dX1_result_96 : decode cX1_result 96 = .ok (.iload 5, 2) := by decide +kernel
theorem dX1_result_98 : decode cX1_result 98 = .ok (.iadd, 1) := by decide +kernel
theorem dX1_result_99 : decode cX1_result 99 = .ok (.ireturn, 1) := by decide +kernel
theorem dX1_result_100 : decode cX1_result 100 = .ok (.aload_n 0, 1) := by decide +kernel
theorem dX1_result_101 : decode cX1_result 101 = .ok (.getfield 16, 3) := by decide +kernel
theorem dX1_result_104 : decode cX1_result 104 = .ok (.iload_n 1, 1) := by decide +kernel
theorem dX1_result_105 : decode cX1_result 105 = .ok (.iaload, 1) := by decide +kernel
theorem dX1_result_106 : decode cX1_result 106 = .ok (.iconst 2, 1) := by decide +kernel
theorem dX1_result_107 : decode cX1_result 107 = .ok (.if_icmp .ne 8, 3) := by decide +kernel
theorem dX1_result_110 : decode cX1_result 110 = .ok (.iload_n 3, 1) := by decide +kernel
theorem dX1_result_111 : decode cX1_result 111 = .ok (.iload 5, 2) := by decide +kernel
theorem dX1_result_113 : decode cX1_result 113 = .ok (.isub, 1) := by decide +kernel
theorem dX1_result_114 : decode cX1_result 114 = .ok (.ireturn, 1) := by decide +kernel
theorem dX1_result_115 : decode cX1_result 115 = .ok (.aload_n 0, 1) := by decide +kernel
theorem dX1_result_116 : decode cX1_result 116 = .ok (.getfield 16, 3) := by decide +kernel
theorem dX1_result_119 : decode cX1_result 119 = .ok (.iload_n 1, 1) := by decide +kernel
theorem dX1_result_120 : decode cX1_result 120 = .ok (.iaload, 1) := by decide +kernel
theorem dX1_result_121 : decode cX1_result 121 = .ok (.iconst 3, 1) := by decide +kernel
theorem dX1_result_122 : decode cX1_result 122 = .ok (.if_icmp .ne 10, 3) := by decide +kernel
theorem dX1_result_125 : decode cX1_result 125 = .ok (.iload_n 3, 1) := by decide +kernel
theorem dX1_result_126 : decode cX1_result 126 = .ok (.iload 5, 2) := by decide +kernel
theorem dX1_result_128 : decode cX1_result 128 = .ok (.imul, 1) := by decide +kernel
theorem dX1_result_129 : decode cX1_result 129 = .ok (.goto 7, 3) := by decide +kernel
theorem dX1_result_132 : decode cX1_result 132 = .ok (.iload_n 3, 1) := by decide +kernel
theorem dX1_result_133 : decode cX1_result 133 = .ok (.iload 5, 2) := by decide +kernel
theorem dX1_result_135 : decode cX1_result 135 = .ok (.ixor, 1) := by decide +kernel
theorem dX1_result_136 : decode cX1_result 136 = .ok (.ireturn, 1) := by decide +kernel
abbrev cX1_poke : ByteArray := prog_3_method_11_code
def yX1_poke : MethodName := ⟨RX1, "poke", "(II)I"⟩
theorem dX1_poke_0 : decode cX1_poke 0 = .ok (.iload_n 1, 1) := by decide +kernel
theorem dX1_poke_1 : decode cX1_poke 1 = .ok (.ifCond .lt 9, 3) := by decide +kernel
theorem dX1_poke_4 : decode cX1_poke 4 = .ok (.iload_n 1, 1) := by decide +kernel
theorem dX1_poke_5 : decode cX1_poke 5 = .ok (.bipush 63, 2) := by decide +kernel
theorem dX1_poke_7 : decode cX1_poke 7 = .ok (.if_icmp .le 5, 3) := by decide +kernel
theorem dX1_poke_10 : decode cX1_poke 10 = .ok (.iconst (-1), 1) := by decide +kernel
theorem dX1_poke_11 : decode cX1_poke 11 = .ok (.ireturn, 1) := by decide +kernel
theorem dX1_poke_12 : decode cX1_poke 12 = .ok (.aload_n 0, 1) := by decide +kernel
theorem dX1_poke_13 : decode cX1_poke 13 = .ok (.getfield 7, 3) := by decide +kernel
theorem dX1_poke_16 : decode cX1_poke 16 = .ok (.iload_n 1, 1) := by decide +kernel
theorem dX1_poke_17 : decode cX1_poke 17 = .ok (.iload_n 2, 1) := by decide +kernel
theorem dX1_poke_18 : decode cX1_poke 18 = .ok (.iastore, 1) := by decide +kernel
theorem dX1_poke_19 : decode cX1_poke 19 = .ok (.iconst 0, 1) := by decide +kernel
theorem dX1_poke_20 : decode cX1_poke 20 = .ok (.ireturn, 1) := by decide +kernel
abbrev cX1_fill : ByteArray := prog_3_method_12_code
def yX1_fill : MethodName := ⟨RX1, "fill", "(IIII)I"⟩
theorem dX1_fill_0 : decode cX1_fill 0 = .ok (.iload_n 1, 1) := by decide +kernel
theorem dX1_fill_1 : decode cX1_fill 1 = .ok (.ifCond .lt 14, 3) := by decide +kernel
theorem dX1_fill_4 : decode cX1_fill 4 = .ok (.iload_n 1, 1) := by decide +kernel
theorem dX1_fill_5 : decode cX1_fill 5 = .ok (.iload_n 2, 1) := by decide +kernel
theorem dX1_fill_6 : decode cX1_fill 6 = .ok (.if_icmp .gt 9, 3) := by decide +kernel
theorem dX1_fill_9 : decode cX1_fill 9 = .ok (.iload_n 2, 1) := by decide +kernel
theorem dX1_fill_10 : decode cX1_fill 10 = .ok (.bipush 63, 2) := by decide +kernel
theorem dX1_fill_12 : decode cX1_fill 12 = .ok (.if_icmp .le 5, 3) := by decide +kernel
theorem dX1_fill_15 : decode cX1_fill 15 = .ok (.iconst (-1), 1) := by decide +kernel
theorem dX1_fill_16 : decode cX1_fill 16 = .ok (.ireturn, 1) := by decide +kernel
theorem dX1_fill_17 : decode cX1_fill 17 = .ok (.iload_n 1, 1) := by decide +kernel
theorem dX1_fill_18 : decode cX1_fill 18 = .ok (.istore 5, 2) := by decide +kernel
theorem dX1_fill_20 : decode cX1_fill 20 = .ok (.iload 5, 2) := by decide +kernel
theorem dX1_fill_22 : decode cX1_fill 22 = .ok (.iload_n 2, 1) := by decide +kernel
theorem dX1_fill_23 : decode cX1_fill 23 = .ok (.if_icmp .gt 25, 3) := by decide +kernel
theorem dX1_fill_26 : decode cX1_fill 26 = .ok (.aload_n 0, 1) := by decide +kernel
theorem dX1_fill_27 : decode cX1_fill 27 = .ok (.getfield 7, 3) := by decide +kernel
theorem dX1_fill_30 : decode cX1_fill 30 = .ok (.iload 5, 2) := by decide +kernel
theorem dX1_fill_32 : decode cX1_fill 32 = .ok (.iload_n 3, 1) := by decide +kernel
theorem dX1_fill_33 : decode cX1_fill 33 = .ok (.iload 5, 2) := by decide +kernel
theorem dX1_fill_35 : decode cX1_fill 35 = .ok (.iload_n 1, 1) := by decide +kernel
theorem dX1_fill_36 : decode cX1_fill 36 = .ok (.isub, 1) := by decide +kernel
theorem dX1_fill_37 : decode cX1_fill 37 = .ok (.iload 4, 2) := by decide +kernel
theorem dX1_fill_39 : decode cX1_fill 39 = .ok (.imul, 1) := by decide +kernel
theorem dX1_fill_40 : decode cX1_fill 40 = .ok (.iadd, 1) := by decide +kernel
theorem dX1_fill_41 : decode cX1_fill 41 = .ok (.iastore, 1) := by decide +kernel
theorem dX1_fill_42 : decode cX1_fill 42 = .ok (.iinc 5 1, 3) := by decide +kernel
theorem dX1_fill_45 : decode cX1_fill 45 = .ok (.goto (-25), 3) := by decide +kernel
theorem dX1_fill_48 : decode cX1_fill 48 = .ok (.iconst 0, 1) := by decide +kernel
theorem dX1_fill_49 : decode cX1_fill 49 = .ok (.ireturn, 1) := by decide +kernel
abbrev cX1_peek : ByteArray := prog_3_method_13_code
def yX1_peek : MethodName := ⟨RX1, "peek", "(I)I"⟩
theorem dX1_peek_0 : decode cX1_peek 0 = .ok (.iload_n 1, 1) := by decide +kernel
theorem dX1_peek_1 : decode cX1_peek 1 = .ok (.ifCond .lt 9, 3) := by decide +kernel
theorem dX1_peek_4 : decode cX1_peek 4 = .ok (.iload_n 1, 1) := by decide +kernel
theorem dX1_peek_5 : decode cX1_peek 5 = .ok (.bipush 63, 2) := by decide +kernel
theorem dX1_peek_7 : decode cX1_peek 7 = .ok (.if_icmp .le 7, 3) := by decide +kernel
theorem dX1_peek_10 : decode cX1_peek 10 = .ok (.iconst 0, 1) := by decide +kernel
theorem dX1_peek_11 : decode cX1_peek 11 = .ok (.goto 9, 3) := by decide +kernel
theorem dX1_peek_14 : decode cX1_peek 14 = .ok (.aload_n 0, 1) := by decide +kernel
theorem dX1_peek_15 : decode cX1_peek 15 = .ok (.getfield 7, 3) := by decide +kernel
theorem dX1_peek_18 : decode cX1_peek 18 = .ok (.iload_n 1, 1) := by decide +kernel
theorem dX1_peek_19 : decode cX1_peek 19 = .ok (.iaload, 1) := by decide +kernel
theorem dX1_peek_20 : decode cX1_peek 20 = .ok (.ireturn, 1) := by decide +kernel
abbrev cX1_total : ByteArray := prog_3_method_14_code
def yX1_total : MethodName := ⟨RX1, "total", "()I"⟩
theorem dX1_total_0 : decode cX1_total 0 = .ok (.aload_n 0, 1) := by decide +kernel
theorem dX1_total_1 : decode cX1_total 1 = .ok (.getfield 40, 3) := by decide +kernel
theorem dX1_total_4 : decode cX1_total 4 = .ok (.ireturn, 1) := by decide +kernel
abbrev cX1_setTotal : ByteArray := prog_3_method_15_code
def yX1_setTotal : MethodName := ⟨RX1, "setTotal", "(I)I"⟩
theorem dX1_setTotal_0 : decode cX1_setTotal 0 = .ok (.aload_n 0, 1) := by decide +kernel
theorem dX1_setTotal_1 : decode cX1_setTotal 1 = .ok (.getfield 40, 3) := by decide +kernel
theorem dX1_setTotal_4 : decode cX1_setTotal 4 = .ok (.istore_n 2, 1) := by decide +kernel
theorem dX1_setTotal_5 : decode cX1_setTotal 5 = .ok (.aload_n 0, 1) := by decide +kernel
theorem dX1_setTotal_6 : decode cX1_setTotal 6 = .ok (.iload_n 1, 1) := by decide +kernel
theorem dX1_setTotal_7 : decode cX1_setTotal 7 = .ok (.putfield 40, 3) := by decide +kernel
theorem dX1_setTotal_10 : decode cX1_setTotal 10 = .ok (.iload_n 2, 1) := by decide +kernel
theorem dX1_setTotal_11 : decode cX1_setTotal 11 = .ok (.ireturn, 1) := by decide +kernel
abbrev cX1_digest : ByteArray := prog_3_method_16_code
def yX1_digest : MethodName := ⟨RX1, "digest", "()I"⟩
theorem dX1_digest_0 : decode cX1_digest 0 = .ok (.iconst 0, 1) := by decide +kernel
theorem dX1_digest_1 : decode cX1_digest 1 = .ok (.istore_n 1, 1) := by decide +kernel
theorem dX1_digest_2 : decode cX1_digest 2 = .ok (.iconst 0, 1) := by decide +kernel
theorem dX1_digest_3 : decode cX1_digest 3 = .ok (.istore_n 2, 1) := by decide +kernel
theorem dX1_digest_4 : decode cX1_digest 4 = .ok (.iload_n 2, 1) := by decide +kernel
theorem dX1_digest_5 : decode cX1_digest 5 = .ok (.bipush 64, 2) := by decide +kernel
theorem dX1_digest_7 : decode cX1_digest 7 = .ok (.if_icmp .ge 22, 3) := by decide +kernel
theorem dX1_digest_10 : decode cX1_digest 10 = .ok (.iload_n 1, 1) := by decide +kernel
theorem dX1_digest_11 : decode cX1_digest 11 = .ok (.iload_n 2, 1) := by decide +kernel
theorem dX1_digest_12 : decode cX1_digest 12 = .ok (.iconst 1, 1) := by decide +kernel
theorem dX1_digest_13 : decode cX1_digest 13 = .ok (.iadd, 1) := by decide +kernel
theorem dX1_digest_14 : decode cX1_digest 14 = .ok (.aload_n 0, 1) := by decide +kernel
theorem dX1_digest_15 : decode cX1_digest 15 = .ok (.getfield 7, 3) := by decide +kernel
theorem dX1_digest_18 : decode cX1_digest 18 = .ok (.iload_n 2, 1) := by decide +kernel
theorem dX1_digest_19 : decode cX1_digest 19 = .ok (.iaload, 1) := by decide +kernel
theorem dX1_digest_20 : decode cX1_digest 20 = .ok (.imul, 1) := by decide +kernel
theorem dX1_digest_21 : decode cX1_digest 21 = .ok (.iadd, 1) := by decide +kernel
theorem dX1_digest_22 : decode cX1_digest 22 = .ok (.istore_n 1, 1) := by decide +kernel
theorem dX1_digest_23 : decode cX1_digest 23 = .ok (.iinc 2 1, 3) := by decide +kernel
theorem dX1_digest_26 : decode cX1_digest 26 = .ok (.goto (-22), 3) := by decide +kernel
theorem dX1_digest_29 : decode cX1_digest 29 = .ok (.iload_n 1, 1) := by decide +kernel
theorem dX1_digest_30 : decode cX1_digest 30 = .ok (.ireturn, 1) := by decide +kernel
abbrev cX1_cellOf : ByteArray := prog_3_method_17_code
def yX1_cellOf : MethodName := ⟨RX1, "cellOf", "(II)I"⟩
theorem dX1_cellOf_0 : decode cX1_cellOf 0 = .ok (.aload_n 0, 1) := by decide +kernel
theorem dX1_cellOf_1 : decode cX1_cellOf 1 = .ok (.iload_n 1, 1) := by decide +kernel
theorem dX1_cellOf_2 : decode cX1_cellOf 2 = .ok (.invokevirtual 28, 3) := by decide +kernel
theorem dX1_cellOf_5 : decode cX1_cellOf 5 = .ok (.ifCond .eq 5, 3) := by decide +kernel
theorem dX1_cellOf_8 : decode cX1_cellOf 8 = .ok (.iconst (-1), 1) := by decide +kernel
theorem dX1_cellOf_9 : decode cX1_cellOf 9 = .ok (.ireturn, 1) := by decide +kernel
theorem dX1_cellOf_10 : decode cX1_cellOf 10 = .ok (.iload_n 2, 1) := by decide +kernel
theorem dX1_cellOf_11 : decode cX1_cellOf 11 = .ok (.ifCond .lt 9, 3) := by decide +kernel
theorem dX1_cellOf_14 : decode cX1_cellOf 14 = .ok (.iload_n 2, 1) := by decide +kernel
theorem dX1_cellOf_15 : decode cX1_cellOf 15 = .ok (.bipush 39, 2) := by decide +kernel
theorem dX1_cellOf_17 : decode cX1_cellOf 17 = .ok (.if_icmp .le 6, 3) := by decide +kernel
theorem dX1_cellOf_20 : decode cX1_cellOf 20 = .ok (.bipush (-2), 2) := by decide +kernel
theorem dX1_cellOf_22 : decode cX1_cellOf 22 = .ok (.ireturn, 1) := by decide +kernel
theorem dX1_cellOf_23 : decode cX1_cellOf 23 = .ok (.aload_n 0, 1) := by decide +kernel
theorem dX1_cellOf_24 : decode cX1_cellOf 24 = .ok (.iload_n 1, 1) := by decide +kernel
theorem dX1_cellOf_25 : decode cX1_cellOf 25 = .ok (.iload_n 2, 1) := by decide +kernel
theorem dX1_cellOf_26 : decode cX1_cellOf 26 = .ok (.invokevirtual 36, 3) := by decide +kernel
theorem dX1_cellOf_29 : decode cX1_cellOf 29 = .ok (.ireturn, 1) := by decide +kernel
abbrev cX1_spread : ByteArray := prog_3_method_19_code
def yX1_spread : MethodName := ⟨RX1, "spread", "(II)I"⟩
theorem dX1_spread_0 : decode cX1_spread 0 = .ok (.aload_n 0, 1) := by decide +kernel
theorem dX1_spread_1 : decode cX1_spread 1 = .ok (.iload_n 1, 1) := by decide +kernel
theorem dX1_spread_2 : decode cX1_spread 2 = .ok (.invokevirtual 28, 3) := by decide +kernel
theorem dX1_spread_5 : decode cX1_spread 5 = .ok (.ifCond .eq 5, 3) := by decide +kernel
theorem dX1_spread_8 : decode cX1_spread 8 = .ok (.iconst (-1), 1) := by decide +kernel
theorem dX1_spread_9 : decode cX1_spread 9 = .ok (.ireturn, 1) := by decide +kernel
theorem dX1_spread_10 : decode cX1_spread 10 = .ok (.iload_n 2, 1) := by decide +kernel
theorem dX1_spread_11 : decode cX1_spread 11 = .ok (.ifCond .lt 9, 3) := by decide +kernel
theorem dX1_spread_14 : decode cX1_spread 14 = .ok (.iload_n 2, 1) := by decide +kernel
theorem dX1_spread_15 : decode cX1_spread 15 = .ok (.bipush 40, 2) := by decide +kernel
theorem dX1_spread_17 : decode cX1_spread 17 = .ok (.if_icmp .le 6, 3) := by decide +kernel
theorem dX1_spread_20 : decode cX1_spread 20 = .ok (.bipush (-2), 2) := by decide +kernel
theorem dX1_spread_22 : decode cX1_spread 22 = .ok (.ireturn, 1) := by decide +kernel
theorem dX1_spread_23 : decode cX1_spread 23 = .ok (.iconst 0, 1) := by decide +kernel
theorem dX1_spread_24 : decode cX1_spread 24 = .ok (.istore_n 3, 1) := by decide +kernel
theorem dX1_spread_25 : decode cX1_spread 25 = .ok (.iconst 0, 1) := by decide +kernel
theorem dX1_spread_26 : decode cX1_spread 26 = .ok (.istore 4, 2) := by decide +kernel
theorem dX1_spread_28 : decode cX1_spread 28 = .ok (.iload 4, 2) := by decide +kernel
theorem dX1_spread_30 : decode cX1_spread 30 = .ok (.bipush 64, 2) := by decide +kernel
theorem dX1_spread_32 : decode cX1_spread 32 = .ok (.if_icmp .ge 23, 3) := by decide +kernel
theorem dX1_spread_35 : decode cX1_spread 35 = .ok (.aload_n 0, 1) := by decide +kernel
theorem dX1_spread_36 : decode cX1_spread 36 = .ok (.iload_n 1, 1) := by decide +kernel
theorem dX1_spread_37 : decode cX1_spread 37 = .ok (.iload_n 2, 1) := by decide +kernel
theorem dX1_spread_38 : decode cX1_spread 38 = .ok (.iload 4, 2) := by decide +kernel
theorem dX1_spread_40 : decode cX1_spread 40 = .ok (.invokevirtual 46, 3) := by decide +kernel
theorem dX1_spread_43 : decode cX1_spread 43 = .ok (.ifCond .eq 6, 3) := by decide +kernel
theorem dX1_spread_46 : decode cX1_spread 46 = .ok (.iinc 3 1, 3) := by decide +kernel
theorem dX1_spread_49 : decode cX1_spread 49 = .ok (.iinc 4 1, 3) := by decide +kernel
theorem dX1_spread_52 : decode cX1_spread 52 = .ok (.goto (-24), 3) := by decide +kernel
theorem dX1_spread_55 : decode cX1_spread 55 = .ok (.iload_n 3, 1) := by decide +kernel
theorem dX1_spread_56 : decode cX1_spread 56 = .ok (.ireturn, 1) := by decide +kernel
abbrev cX1_visits : ByteArray := prog_3_method_18_code
def yX1_visits : MethodName := ⟨RX1, "visits", "(III)Z"⟩
theorem dX1_visits_0 : decode cX1_visits 0 = .ok (.iconst 0, 1) := by decide +kernel
theorem dX1_visits_1 : decode cX1_visits 1 = .ok (.istore 4, 2) := by decide +kernel
theorem dX1_visits_3 : decode cX1_visits 3 = .ok (.iload 4, 2) := by decide +kernel
theorem dX1_visits_5 : decode cX1_visits 5 = .ok (.iload_n 2, 1) := by decide +kernel
theorem dX1_visits_6 : decode cX1_visits 6 = .ok (.if_icmp .ge 22, 3) := by decide +kernel
theorem dX1_visits_9 : decode cX1_visits 9 = .ok (.aload_n 0, 1) := by decide +kernel
theorem dX1_visits_10 : decode cX1_visits 10 = .ok (.iload_n 1, 1) := by decide +kernel
theorem dX1_visits_11 : decode cX1_visits 11 = .ok (.iload 4, 2) := by decide +kernel
theorem dX1_visits_13 : decode cX1_visits 13 = .ok (.invokevirtual 36, 3) := by decide +kernel
theorem dX1_visits_16 : decode cX1_visits 16 = .ok (.iload_n 3, 1) := by decide +kernel
theorem dX1_visits_17 : decode cX1_visits 17 = .ok (.if_icmp .ne 5, 3) := by decide +kernel
theorem dX1_visits_20 : decode cX1_visits 20 = .ok (.iconst 1, 1) := by decide +kernel
theorem dX1_visits_21 : decode cX1_visits 21 = .ok (.ireturn, 1) := by decide +kernel
theorem dX1_visits_22 : decode cX1_visits 22 = .ok (.iinc 4 1, 3) := by decide +kernel
theorem dX1_visits_25 : decode cX1_visits 25 = .ok (.goto (-22), 3) := by decide +kernel
theorem dX1_visits_28 : decode cX1_visits 28 = .ok (.iconst 0, 1) := by decide +kernel
theorem dX1_visits_29 : decode cX1_visits 29 = .ok (.ireturn, 1) := by decide +kernel
abbrev cX1_meet : ByteArray := prog_3_method_20_code
def yX1_meet : MethodName := ⟨RX1, "meet", "(III)I"⟩
theorem dX1_meet_0 : decode cX1_meet 0 = .ok (.aload_n 0, 1) := by decide +kernel
theorem dX1_meet_1 : decode cX1_meet 1 = .ok (.iload_n 1, 1) := by decide +kernel
theorem dX1_meet_2 : decode cX1_meet 2 = .ok (.invokevirtual 28, 3) := by decide +kernel
theorem dX1_meet_5 : decode cX1_meet 5 = .ok (.ifCond .ne 11, 3) := by decide +kernel
theorem dX1_meet_8 : decode cX1_meet 8 = .ok (.aload_n 0, 1) := by decide +kernel
theorem dX1_meet_9 : decode cX1_meet 9 = .ok (.iload_n 2, 1) := by decide +kernel
theorem dX1_meet_10 : decode cX1_meet 10 = .ok (.invokevirtual 28, 3) := by decide +kernel
theorem dX1_meet_13 : decode cX1_meet 13 = .ok (.ifCond .eq 5, 3) := by decide +kernel
theorem dX1_meet_16 : decode cX1_meet 16 = .ok (.iconst (-1), 1) := by decide +kernel
theorem dX1_meet_17 : decode cX1_meet 17 = .ok (.ireturn, 1) := by decide +kernel
theorem dX1_meet_18 : decode cX1_meet 18 = .ok (.iload_n 3, 1) := by decide +kernel
theorem dX1_meet_19 : decode cX1_meet 19 = .ok (.ifCond .lt 9, 3) := by decide +kernel
theorem dX1_meet_22 : decode cX1_meet 22 = .ok (.iload_n 3, 1) := by decide +kernel
theorem dX1_meet_23 : decode cX1_meet 23 = .ok (.bipush 40, 2) := by decide +kernel
theorem dX1_meet_25 : decode cX1_meet 25 = .ok (.if_icmp .le 6, 3) := by decide +kernel
theorem dX1_meet_28 : decode cX1_meet 28 = .ok (.bipush (-2), 2) := by decide +kernel
theorem dX1_meet_30 : decode cX1_meet 30 = .ok (.ireturn, 1) := by decide +kernel
theorem dX1_meet_31 : decode cX1_meet 31 = .ok (.iconst 0, 1) := by decide +kernel
theorem dX1_meet_32 : decode cX1_meet 32 = .ok (.istore 4, 2) := by decide +kernel
theorem dX1_meet_34 : decode cX1_meet 34 = .ok (.iload 4, 2) := by decide +kernel
theorem dX1_meet_36 : decode cX1_meet 36 = .ok (.bipush 64, 2) := by decide +kernel
theorem dX1_meet_38 : decode cX1_meet 38 = .ok (.if_icmp .ge 33, 3) := by decide +kernel
theorem dX1_meet_41 : decode cX1_meet 41 = .ok (.aload_n 0, 1) := by decide +kernel
theorem dX1_meet_42 : decode cX1_meet 42 = .ok (.iload_n 1, 1) := by decide +kernel
theorem dX1_meet_43 : decode cX1_meet 43 = .ok (.iload_n 3, 1) := by decide +kernel
theorem dX1_meet_44 : decode cX1_meet 44 = .ok (.iload 4, 2) := by decide +kernel
theorem dX1_meet_46 : decode cX1_meet 46 = .ok (.invokevirtual 46, 3) := by decide +kernel
theorem dX1_meet_49 : decode cX1_meet 49 = .ok (.ifCond .eq 16, 3) := by decide +kernel
theorem dX1_meet_52 : decode cX1_meet 52 = .ok (.aload_n 0, 1) := by decide +kernel
theorem dX1_meet_53 : decode cX1_meet 53 = .ok (.iload_n 2, 1) := by decide +kernel
theorem dX1_meet_54 : decode cX1_meet 54 = .ok (.iload_n 3, 1) := by decide +kernel
theorem dX1_meet_55 : decode cX1_meet 55 = .ok (.iload 4, 2) := by decide +kernel
theorem dX1_meet_57 : decode cX1_meet 57 = .ok (.invokevirtual 46, 3) := by decide +kernel
theorem dX1_meet_60 : decode cX1_meet 60 = .ok (.ifCond .eq 5, 3) := by decide +kernel
theorem dX1_meet_63 : decode cX1_meet 63 = .ok (.iconst 1, 1) := by decide +kernel
theorem dX1_meet_64 : decode cX1_meet 64 = .ok (.ireturn, 1) := by decide +kernel
theorem dX1_meet_65 : decode cX1_meet 65 = .ok (.iinc 4 1, 3) := by decide +kernel
theorem dX1_meet_68 : decode cX1_meet 68 = .ok (.goto (-34), 3) := by decide +kernel
theorem dX1_meet_71 : decode cX1_meet 71 = .ok (.iconst 0, 1) := by decide +kernel
theorem dX1_meet_72 : decode cX1_meet 72 = .ok (.ireturn, 1) := by decide +kernel
theorem q15 : (Jvm.Cond.initialized "LoopVersionerModel") ∈ lw_all := lw_g (lw_at lw_m1 2 rfl) rfl
theorem q182 : (Jvm.Cond.instantiable "LoopVersionerModel" (8 : Nat)) ∈ lw_all := lw_g (lw_at lw_m1 169 rfl) rfl
theorem q184 : (Jvm.Cond.instanceMethod ({ cls := "LoopVersionerModel", name := "<init>", desc := "()V" } : Jvm.MethodName)) ∈ lw_all := lw_g (lw_at lw_m1 171 rfl) rfl
theorem q185 : (Jvm.Cond.code ({ cls := "LoopVersionerModel", name := "<init>", desc := "()V" } : Jvm.MethodName) prog_3_method_1_code (1 : Nat) (Option.none : Option Jvm.ClassFile.FieldType)) ∈ lw_all := lw_g (lw_at lw_m1 172 rfl) rfl
theorem q186 : (Jvm.Cond.methodLink "LoopVersionerModel" (1 : Nat) ({ cls := "java/lang/Object", name := "<init>", desc := "()V" } : Jvm.MethodName)) ∈ lw_all := lw_g (lw_at lw_m1 173 rfl) rfl
theorem q187 : (Jvm.Cond.fieldLink "LoopVersionerModel" (7 : Nat) "LoopVersionerModel" "memory" "[I") ∈ lw_all := lw_g (lw_at lw_m1 174 rfl) rfl
theorem q188 : (Jvm.Cond.fieldLink "LoopVersionerModel" (13 : Nat) "LoopVersionerModel" "base" "[I") ∈ lw_all := lw_g (lw_at lw_m1 175 rfl) rfl
theorem q189 : (Jvm.Cond.fieldLink "LoopVersionerModel" (40 : Nat) "LoopVersionerModel" "total" "I") ∈ lw_all := lw_g (lw_at lw_m1 176 rfl) rfl
theorem q190 : (Jvm.Cond.fieldLink "LoopVersionerModel" (32 : Nat) "LoopVersionerModel" "count" "I") ∈ lw_all := lw_g (lw_at lw_m1 177 rfl) rfl
theorem q191 : (Jvm.Cond.fieldLink "LoopVersionerModel" (16 : Nat) "LoopVersionerModel" "op" "[I") ∈ lw_all := lw_g (lw_at lw_m1 178 rfl) rfl
theorem q192 : (Jvm.Cond.fieldLink "LoopVersionerModel" (19 : Nat) "LoopVersionerModel" "target" "[I") ∈ lw_all := lw_g (lw_at lw_m1 179 rfl) rfl
theorem q193 : (Jvm.Cond.fieldLink "LoopVersionerModel" (22 : Nat) "LoopVersionerModel" "source" "[I") ∈ lw_all := lw_g (lw_at lw_m1 180 rfl) rfl
theorem q194 : (Jvm.Cond.fieldLink "LoopVersionerModel" (25 : Nat) "LoopVersionerModel" "second" "[I") ∈ lw_all := lw_g (lw_at lw_m1 181 rfl) rfl
theorem q195 : (Jvm.Cond.lays "LoopVersionerModel" "LoopVersionerModel" "memory" "[I") ∈ lw_all := lw_g (lw_at lw_m1 182 rfl) rfl
theorem q196 : (Jvm.Cond.soleField "LoopVersionerModel" "memory") ∈ lw_all := lw_g (lw_at lw_m1 183 rfl) rfl
theorem q197 : (Jvm.Cond.lays "LoopVersionerModel" "LoopVersionerModel" "base" "[I") ∈ lw_all := lw_g (lw_at lw_m1 184 rfl) rfl
theorem q198 : (Jvm.Cond.soleField "LoopVersionerModel" "base") ∈ lw_all := lw_g (lw_at lw_m1 185 rfl) rfl
theorem q199 : (Jvm.Cond.lays "LoopVersionerModel" "LoopVersionerModel" "total" "I") ∈ lw_all := lw_g (lw_at lw_m1 186 rfl) rfl
theorem q200 : (Jvm.Cond.soleField "LoopVersionerModel" "total") ∈ lw_all := lw_g (lw_at lw_m1 187 rfl) rfl
theorem q201 : (Jvm.Cond.lays "LoopVersionerModel" "LoopVersionerModel" "count" "I") ∈ lw_all := lw_g (lw_at lw_m1 188 rfl) rfl
theorem q202 : (Jvm.Cond.soleField "LoopVersionerModel" "count") ∈ lw_all := lw_g (lw_at lw_m1 189 rfl) rfl
theorem q203 : (Jvm.Cond.lays "LoopVersionerModel" "LoopVersionerModel" "op" "[I") ∈ lw_all := lw_g (lw_at lw_m1 190 rfl) rfl
theorem q204 : (Jvm.Cond.soleField "LoopVersionerModel" "op") ∈ lw_all := lw_g (lw_at lw_m1 191 rfl) rfl
theorem q205 : (Jvm.Cond.lays "LoopVersionerModel" "LoopVersionerModel" "target" "[I") ∈ lw_all := lw_g (lw_at lw_m1 192 rfl) rfl
theorem q206 : (Jvm.Cond.soleField "LoopVersionerModel" "target") ∈ lw_all := lw_g (lw_at lw_m1 193 rfl) rfl
theorem q207 : (Jvm.Cond.lays "LoopVersionerModel" "LoopVersionerModel" "source" "[I") ∈ lw_all := lw_g (lw_at lw_m1 194 rfl) rfl
theorem q208 : (Jvm.Cond.soleField "LoopVersionerModel" "source") ∈ lw_all := lw_g (lw_at lw_m1 195 rfl) rfl
theorem q209 : (Jvm.Cond.lays "LoopVersionerModel" "LoopVersionerModel" "second" "[I") ∈ lw_all := lw_g (lw_at lw_m1 196 rfl) rfl
theorem q210 : (Jvm.Cond.soleField "LoopVersionerModel" "second") ∈ lw_all := lw_g (lw_at lw_m1 197 rfl) rfl
theorem q211 : (Jvm.Cond.superclass "LoopVersionerModel" "java/lang/Object") ∈ lw_all := lw_g (lw_at lw_m1 198 rfl) rfl
theorem q213 : (Jvm.Cond.instanceMethod ({ cls := "LoopVersionerModel", name := "statement", desc := "(IIII)I" } : Jvm.MethodName)) ∈ lw_all := lw_g (lw_at lw_m1 200 rfl) rfl
theorem q214 : (Jvm.Cond.selects "LoopVersionerModel" ({ cls := "LoopVersionerModel", name := "statement", desc := "(IIII)I" } : Jvm.MethodName) ({ cls := "LoopVersionerModel", name := "statement", desc := "(IIII)I" } : Jvm.MethodName)) ∈ lw_all := lw_g (lw_at lw_m1 201 rfl) rfl
theorem q215 : (Jvm.Cond.code ({ cls := "LoopVersionerModel", name := "statement", desc := "(IIII)I" } : Jvm.MethodName) prog_3_method_3_code (6 : Nat) (Option.some Jvm.ClassFile.FieldType.int)) ∈ lw_all := lw_g (lw_at lw_m1 202 rfl) rfl
theorem q216 : (Jvm.Cond.methodLink "LoopVersionerModel" (28 : Nat) ({ cls := "LoopVersionerModel", name := "badRef", desc := "(I)Z" } : Jvm.MethodName)) ∈ lw_all := lw_g (lw_at lw_m1 203 rfl) rfl
theorem q217 : (Jvm.Cond.privateMethod ({ cls := "LoopVersionerModel", name := "badRef", desc := "(I)Z" } : Jvm.MethodName)) ∈ lw_tbl := lw_at lw_m1 204 rfl
theorem q218 : (Jvm.Cond.instanceMethod ({ cls := "LoopVersionerModel", name := "badRef", desc := "(I)Z" } : Jvm.MethodName)) ∈ lw_all := lw_g (lw_at lw_m1 205 rfl) rfl
theorem q219 : (Jvm.Cond.code ({ cls := "LoopVersionerModel", name := "badRef", desc := "(I)Z" } : Jvm.MethodName) prog_3_method_2_code (2 : Nat) (Option.some Jvm.ClassFile.FieldType.boolean)) ∈ lw_all := lw_g (lw_at lw_m1 206 rfl) rfl
theorem q221 : (Jvm.Cond.instanceMethod ({ cls := "LoopVersionerModel", name := "retract", desc := "()I" } : Jvm.MethodName)) ∈ lw_all := lw_g (lw_at lw_m1 208 rfl) rfl
theorem q222 : (Jvm.Cond.selects "LoopVersionerModel" ({ cls := "LoopVersionerModel", name := "retract", desc := "()I" } : Jvm.MethodName) ({ cls := "LoopVersionerModel", name := "retract", desc := "()I" } : Jvm.MethodName)) ∈ lw_all := lw_g (lw_at lw_m1 209 rfl) rfl
theorem q223 : (Jvm.Cond.code ({ cls := "LoopVersionerModel", name := "retract", desc := "()I" } : Jvm.MethodName) prog_3_method_4_code (1 : Nat) (Option.some Jvm.ClassFile.FieldType.int)) ∈ lw_all := lw_g (lw_at lw_m1 210 rfl) rfl
theorem q225 : (Jvm.Cond.instanceMethod ({ cls := "LoopVersionerModel", name := "clear", desc := "()I" } : Jvm.MethodName)) ∈ lw_all := lw_g (lw_at lw_m1 212 rfl) rfl
theorem q226 : (Jvm.Cond.selects "LoopVersionerModel" ({ cls := "LoopVersionerModel", name := "clear", desc := "()I" } : Jvm.MethodName) ({ cls := "LoopVersionerModel", name := "clear", desc := "()I" } : Jvm.MethodName)) ∈ lw_all := lw_g (lw_at lw_m1 213 rfl) rfl
theorem q227 : (Jvm.Cond.code ({ cls := "LoopVersionerModel", name := "clear", desc := "()I" } : Jvm.MethodName) prog_3_method_5_code (2 : Nat) (Option.some Jvm.ClassFile.FieldType.int)) ∈ lw_all := lw_g (lw_at lw_m1 214 rfl) rfl
theorem q229 : (Jvm.Cond.instanceMethod ({ cls := "LoopVersionerModel", name := "statements", desc := "()I" } : Jvm.MethodName)) ∈ lw_all := lw_g (lw_at lw_m1 216 rfl) rfl
theorem q230 : (Jvm.Cond.selects "LoopVersionerModel" ({ cls := "LoopVersionerModel", name := "statements", desc := "()I" } : Jvm.MethodName) ({ cls := "LoopVersionerModel", name := "statements", desc := "()I" } : Jvm.MethodName)) ∈ lw_all := lw_g (lw_at lw_m1 217 rfl) rfl
theorem q231 : (Jvm.Cond.code ({ cls := "LoopVersionerModel", name := "statements", desc := "()I" } : Jvm.MethodName) prog_3_method_6_code (1 : Nat) (Option.some Jvm.ClassFile.FieldType.int)) ∈ lw_all := lw_g (lw_at lw_m1 218 rfl) rfl
theorem q233 : (Jvm.Cond.instanceMethod ({ cls := "LoopVersionerModel", name := "base", desc := "(II)I" } : Jvm.MethodName)) ∈ lw_all := lw_g (lw_at lw_m1 220 rfl) rfl
theorem q234 : (Jvm.Cond.selects "LoopVersionerModel" ({ cls := "LoopVersionerModel", name := "base", desc := "(II)I" } : Jvm.MethodName) ({ cls := "LoopVersionerModel", name := "base", desc := "(II)I" } : Jvm.MethodName)) ∈ lw_all := lw_g (lw_at lw_m1 221 rfl) rfl
theorem q235 : (Jvm.Cond.code ({ cls := "LoopVersionerModel", name := "base", desc := "(II)I" } : Jvm.MethodName) prog_3_method_7_code (4 : Nat) (Option.some Jvm.ClassFile.FieldType.int)) ∈ lw_all := lw_g (lw_at lw_m1 222 rfl) rfl
theorem q237 : (Jvm.Cond.instanceMethod ({ cls := "LoopVersionerModel", name := "run", desc := "(I)I" } : Jvm.MethodName)) ∈ lw_all := lw_g (lw_at lw_m1 224 rfl) rfl
theorem q238 : (Jvm.Cond.selects "LoopVersionerModel" ({ cls := "LoopVersionerModel", name := "run", desc := "(I)I" } : Jvm.MethodName) ({ cls := "LoopVersionerModel", name := "run", desc := "(I)I" } : Jvm.MethodName)) ∈ lw_all := lw_g (lw_at lw_m1 225 rfl) rfl
theorem q239 : (Jvm.Cond.code ({ cls := "LoopVersionerModel", name := "run", desc := "(I)I" } : Jvm.MethodName) prog_3_method_10_code (5 : Nat) (Option.some Jvm.ClassFile.FieldType.int)) ∈ lw_all := lw_g (lw_at lw_m1 226 rfl) rfl
theorem q240 : (Jvm.Cond.methodLink "LoopVersionerModel" (36 : Nat) ({ cls := "LoopVersionerModel", name := "place", desc := "(II)I" } : Jvm.MethodName)) ∈ lw_all := lw_g (lw_at lw_m1 227 rfl) rfl
theorem q241 : (Jvm.Cond.privateMethod ({ cls := "LoopVersionerModel", name := "place", desc := "(II)I" } : Jvm.MethodName)) ∈ lw_tbl := lw_at lw_m1 228 rfl
theorem q242 : (Jvm.Cond.instanceMethod ({ cls := "LoopVersionerModel", name := "place", desc := "(II)I" } : Jvm.MethodName)) ∈ lw_all := lw_g (lw_at lw_m1 229 rfl) rfl
theorem q243 : (Jvm.Cond.code ({ cls := "LoopVersionerModel", name := "place", desc := "(II)I" } : Jvm.MethodName) prog_3_method_8_code (6 : Nat) (Option.some Jvm.ClassFile.FieldType.int)) ∈ lw_all := lw_g (lw_at lw_m1 230 rfl) rfl
theorem q244 : (Jvm.Cond.methodLink "LoopVersionerModel" (43 : Nat) ({ cls := "LoopVersionerModel", name := "result", desc := "(II)I" } : Jvm.MethodName)) ∈ lw_all := lw_g (lw_at lw_m1 231 rfl) rfl
theorem q245 : (Jvm.Cond.privateMethod ({ cls := "LoopVersionerModel", name := "result", desc := "(II)I" } : Jvm.MethodName)) ∈ lw_tbl := lw_at lw_m1 232 rfl
theorem q246 : (Jvm.Cond.instanceMethod ({ cls := "LoopVersionerModel", name := "result", desc := "(II)I" } : Jvm.MethodName)) ∈ lw_all := lw_g (lw_at lw_m1 233 rfl) rfl
theorem q247 : (Jvm.Cond.code ({ cls := "LoopVersionerModel", name := "result", desc := "(II)I" } : Jvm.MethodName) prog_3_method_9_code (6 : Nat) (Option.some Jvm.ClassFile.FieldType.int)) ∈ lw_all := lw_g (lw_at lw_m1 234 rfl) rfl
theorem q249 : (Jvm.Cond.instanceMethod ({ cls := "LoopVersionerModel", name := "poke", desc := "(II)I" } : Jvm.MethodName)) ∈ lw_all := lw_g (lw_at lw_m1 236 rfl) rfl
theorem q250 : (Jvm.Cond.selects "LoopVersionerModel" ({ cls := "LoopVersionerModel", name := "poke", desc := "(II)I" } : Jvm.MethodName) ({ cls := "LoopVersionerModel", name := "poke", desc := "(II)I" } : Jvm.MethodName)) ∈ lw_all := lw_g (lw_at lw_m1 237 rfl) rfl
theorem q251 : (Jvm.Cond.code ({ cls := "LoopVersionerModel", name := "poke", desc := "(II)I" } : Jvm.MethodName) prog_3_method_11_code (3 : Nat) (Option.some Jvm.ClassFile.FieldType.int)) ∈ lw_all := lw_g (lw_at lw_m1 238 rfl) rfl
theorem q253 : (Jvm.Cond.instanceMethod ({ cls := "LoopVersionerModel", name := "fill", desc := "(IIII)I" } : Jvm.MethodName)) ∈ lw_all := lw_g (lw_at lw_m2 0 rfl) rfl
theorem q254 : (Jvm.Cond.selects "LoopVersionerModel" ({ cls := "LoopVersionerModel", name := "fill", desc := "(IIII)I" } : Jvm.MethodName) ({ cls := "LoopVersionerModel", name := "fill", desc := "(IIII)I" } : Jvm.MethodName)) ∈ lw_all := lw_g (lw_at lw_m2 1 rfl) rfl
theorem q255 : (Jvm.Cond.code ({ cls := "LoopVersionerModel", name := "fill", desc := "(IIII)I" } : Jvm.MethodName) prog_3_method_12_code (6 : Nat) (Option.some Jvm.ClassFile.FieldType.int)) ∈ lw_all := lw_g (lw_at lw_m2 2 rfl) rfl
theorem q257 : (Jvm.Cond.instanceMethod ({ cls := "LoopVersionerModel", name := "peek", desc := "(I)I" } : Jvm.MethodName)) ∈ lw_all := lw_g (lw_at lw_m2 4 rfl) rfl
theorem q258 : (Jvm.Cond.selects "LoopVersionerModel" ({ cls := "LoopVersionerModel", name := "peek", desc := "(I)I" } : Jvm.MethodName) ({ cls := "LoopVersionerModel", name := "peek", desc := "(I)I" } : Jvm.MethodName)) ∈ lw_all := lw_g (lw_at lw_m2 5 rfl) rfl
theorem q259 : (Jvm.Cond.code ({ cls := "LoopVersionerModel", name := "peek", desc := "(I)I" } : Jvm.MethodName) prog_3_method_13_code (2 : Nat) (Option.some Jvm.ClassFile.FieldType.int)) ∈ lw_all := lw_g (lw_at lw_m2 6 rfl) rfl
theorem q261 : (Jvm.Cond.instanceMethod ({ cls := "LoopVersionerModel", name := "total", desc := "()I" } : Jvm.MethodName)) ∈ lw_all := lw_g (lw_at lw_m2 8 rfl) rfl
theorem q262 : (Jvm.Cond.selects "LoopVersionerModel" ({ cls := "LoopVersionerModel", name := "total", desc := "()I" } : Jvm.MethodName) ({ cls := "LoopVersionerModel", name := "total", desc := "()I" } : Jvm.MethodName)) ∈ lw_all := lw_g (lw_at lw_m2 9 rfl) rfl
theorem q263 : (Jvm.Cond.code ({ cls := "LoopVersionerModel", name := "total", desc := "()I" } : Jvm.MethodName) prog_3_method_14_code (1 : Nat) (Option.some Jvm.ClassFile.FieldType.int)) ∈ lw_all := lw_g (lw_at lw_m2 10 rfl) rfl
theorem q265 : (Jvm.Cond.instanceMethod ({ cls := "LoopVersionerModel", name := "setTotal", desc := "(I)I" } : Jvm.MethodName)) ∈ lw_all := lw_g (lw_at lw_m2 12 rfl) rfl
theorem q266 : (Jvm.Cond.selects "LoopVersionerModel" ({ cls := "LoopVersionerModel", name := "setTotal", desc := "(I)I" } : Jvm.MethodName) ({ cls := "LoopVersionerModel", name := "setTotal", desc := "(I)I" } : Jvm.MethodName)) ∈ lw_all := lw_g (lw_at lw_m2 13 rfl) rfl
theorem q267 : (Jvm.Cond.code ({ cls := "LoopVersionerModel", name := "setTotal", desc := "(I)I" } : Jvm.MethodName) prog_3_method_15_code (3 : Nat) (Option.some Jvm.ClassFile.FieldType.int)) ∈ lw_all := lw_g (lw_at lw_m2 14 rfl) rfl
theorem q269 : (Jvm.Cond.instanceMethod ({ cls := "LoopVersionerModel", name := "digest", desc := "()I" } : Jvm.MethodName)) ∈ lw_all := lw_g (lw_at lw_m2 16 rfl) rfl
theorem q270 : (Jvm.Cond.selects "LoopVersionerModel" ({ cls := "LoopVersionerModel", name := "digest", desc := "()I" } : Jvm.MethodName) ({ cls := "LoopVersionerModel", name := "digest", desc := "()I" } : Jvm.MethodName)) ∈ lw_all := lw_g (lw_at lw_m2 17 rfl) rfl
theorem q271 : (Jvm.Cond.code ({ cls := "LoopVersionerModel", name := "digest", desc := "()I" } : Jvm.MethodName) prog_3_method_16_code (3 : Nat) (Option.some Jvm.ClassFile.FieldType.int)) ∈ lw_all := lw_g (lw_at lw_m2 18 rfl) rfl
theorem q273 : (Jvm.Cond.instanceMethod ({ cls := "LoopVersionerModel", name := "cellOf", desc := "(II)I" } : Jvm.MethodName)) ∈ lw_all := lw_g (lw_at lw_m2 20 rfl) rfl
theorem q274 : (Jvm.Cond.selects "LoopVersionerModel" ({ cls := "LoopVersionerModel", name := "cellOf", desc := "(II)I" } : Jvm.MethodName) ({ cls := "LoopVersionerModel", name := "cellOf", desc := "(II)I" } : Jvm.MethodName)) ∈ lw_all := lw_g (lw_at lw_m2 21 rfl) rfl
theorem q275 : (Jvm.Cond.code ({ cls := "LoopVersionerModel", name := "cellOf", desc := "(II)I" } : Jvm.MethodName) prog_3_method_17_code (3 : Nat) (Option.some Jvm.ClassFile.FieldType.int)) ∈ lw_all := lw_g (lw_at lw_m2 22 rfl) rfl
theorem q277 : (Jvm.Cond.instanceMethod ({ cls := "LoopVersionerModel", name := "spread", desc := "(II)I" } : Jvm.MethodName)) ∈ lw_all := lw_g (lw_at lw_m2 24 rfl) rfl
theorem q278 : (Jvm.Cond.selects "LoopVersionerModel" ({ cls := "LoopVersionerModel", name := "spread", desc := "(II)I" } : Jvm.MethodName) ({ cls := "LoopVersionerModel", name := "spread", desc := "(II)I" } : Jvm.MethodName)) ∈ lw_all := lw_g (lw_at lw_m2 25 rfl) rfl
theorem q279 : (Jvm.Cond.code ({ cls := "LoopVersionerModel", name := "spread", desc := "(II)I" } : Jvm.MethodName) prog_3_method_19_code (5 : Nat) (Option.some Jvm.ClassFile.FieldType.int)) ∈ lw_all := lw_g (lw_at lw_m2 26 rfl) rfl
theorem q280 : (Jvm.Cond.methodLink "LoopVersionerModel" (46 : Nat) ({ cls := "LoopVersionerModel", name := "visits", desc := "(III)Z" } : Jvm.MethodName)) ∈ lw_all := lw_g (lw_at lw_m2 27 rfl) rfl
theorem q281 : (Jvm.Cond.privateMethod ({ cls := "LoopVersionerModel", name := "visits", desc := "(III)Z" } : Jvm.MethodName)) ∈ lw_tbl := lw_at lw_m2 28 rfl
theorem q282 : (Jvm.Cond.instanceMethod ({ cls := "LoopVersionerModel", name := "visits", desc := "(III)Z" } : Jvm.MethodName)) ∈ lw_all := lw_g (lw_at lw_m2 29 rfl) rfl
theorem q283 : (Jvm.Cond.code ({ cls := "LoopVersionerModel", name := "visits", desc := "(III)Z" } : Jvm.MethodName) prog_3_method_18_code (5 : Nat) (Option.some Jvm.ClassFile.FieldType.boolean)) ∈ lw_all := lw_g (lw_at lw_m2 30 rfl) rfl
theorem q285 : (Jvm.Cond.instanceMethod ({ cls := "LoopVersionerModel", name := "meet", desc := "(III)I" } : Jvm.MethodName)) ∈ lw_all := lw_g (lw_at lw_m2 32 rfl) rfl
theorem q286 : (Jvm.Cond.selects "LoopVersionerModel" ({ cls := "LoopVersionerModel", name := "meet", desc := "(III)I" } : Jvm.MethodName) ({ cls := "LoopVersionerModel", name := "meet", desc := "(III)I" } : Jvm.MethodName)) ∈ lw_all := lw_g (lw_at lw_m2 33 rfl) rfl
theorem q287 : (Jvm.Cond.code ({ cls := "LoopVersionerModel", name := "meet", desc := "(III)I" } : Jvm.MethodName) prog_3_method_20_code (5 : Nat) (Option.some Jvm.ClassFile.FieldType.int)) ∈ lw_all := lw_g (lw_at lw_m2 34 rfl) rfl
theorem in_X1 : ∀ w ∈ wsX10, w ∈ lw_all := lw_in wsX10 [195, 197, 199, 201, 203, 205, 207, 209] (by decide +kernel) (by decide +kernel)
end
section
/-! the law's own entry -/
set_option maxRecDepth 100000
abbrev cL_law : ByteArray := code
theorem dL_law_0 : decode cL_law 0 = .ok (.new 7, 3) := by decide +kernel
theorem dL_law_3 : decode cL_law 3 = .ok (.dup, 1) := by decide +kernel
theorem dL_law_4 : decode cL_law 4 = .ok (.invokespecial 9, 3) := by decide +kernel
theorem dL_law_7 : decode cL_law 7 = .ok (.astore_n 1, 1) := by decide +kernel
theorem dL_law_8 : decode cL_law 8 = .ok (.new 10, 3) := by decide +kernel
theorem dL_law_11 : decode cL_law 11 = .ok (.dup, 1) := by decide +kernel
theorem dL_law_12 : decode cL_law 12 = .ok (.invokespecial 12, 3) := by decide +kernel
theorem dL_law_15 : decode cL_law 15 = .ok (.astore_n 2, 1) := by decide +kernel
theorem dL_law_16 : decode cL_law 16 = .ok (.iconst 0, 1) := by decide +kernel
theorem dL_law_17 : decode cL_law 17 = .ok (.istore_n 3, 1) := by decide +kernel
theorem dL_law_18 : decode cL_law 18 = .ok (.iload_n 3, 1) := by decide +kernel
theorem dL_law_19 : decode cL_law 19 = .ok (.aload_n 0, 1) := by decide +kernel
theorem dL_law_20 : decode cL_law 20 = .ok (.arraylength, 1) := by decide +kernel
theorem dL_law_21 : decode cL_law 21 = .ok (.iconst 5, 1) := by decide +kernel
theorem dL_law_22 : decode cL_law 22 = .ok (.isub, 1) := by decide +kernel
theorem dL_law_23 : decode cL_law 23 = .ok (.if_icmp .gt 506, 3) := by decide +kernel
theorem dL_law_26 : decode cL_law 26 = .ok (.aload_n 0, 1) := by decide +kernel
theorem dL_law_27 : decode cL_law 27 = .ok (.iload_n 3, 1) := by decide +kernel
theorem dL_law_28 : decode cL_law 28 = .ok (.iaload, 1) := by decide +kernel
theorem dL_law_29 : decode cL_law 29 = .ok (.bipush 15, 2) := by decide +kernel
theorem dL_law_31 : decode cL_law 31 = .ok (.iand, 1) := by decide +kernel
theorem dL_law_32 : decode cL_law 32 = .ok (.tableswitch 491 0 14 #[76, 129, 142, 155, 168, 201, 224, 257, 310, 333, 346, 369, 382, 415, 448], 76) := by decide +kernel
theorem dL_law_108 : decode cL_law 108 = .ok (.aload_n 1, 1) := by decide +kernel
theorem dL_law_109 : decode cL_law 109 = .ok (.aload_n 0, 1) := by decide +kernel
theorem dL_law_110 : decode cL_law 110 = .ok (.iload_n 3, 1) := by decide +kernel
theorem dL_law_111 : decode cL_law 111 = .ok (.iconst 1, 1) := by decide +kernel
theorem dL_law_112 : decode cL_law 112 = .ok (.iadd, 1) := by decide +kernel
theorem dL_law_113 : decode cL_law 113 = .ok (.iaload, 1) := by decide +kernel
theorem dL_law_114 : decode cL_law 114 = .ok (.aload_n 0, 1) := by decide +kernel
theorem dL_law_115 : decode cL_law 115 = .ok (.iload_n 3, 1) := by decide +kernel
theorem dL_law_116 : decode cL_law 116 = .ok (.iconst 2, 1) := by decide +kernel
theorem dL_law_117 : decode cL_law 117 = .ok (.iadd, 1) := by decide +kernel
theorem dL_law_118 : decode cL_law 118 = .ok (.iaload, 1) := by decide +kernel
theorem dL_law_119 : decode cL_law 119 = .ok (.aload_n 0, 1) := by decide +kernel
theorem dL_law_120 : decode cL_law 120 = .ok (.iload_n 3, 1) := by decide +kernel
theorem dL_law_121 : decode cL_law 121 = .ok (.iconst 3, 1) := by decide +kernel
theorem dL_law_122 : decode cL_law 122 = .ok (.iadd, 1) := by decide +kernel
theorem dL_law_123 : decode cL_law 123 = .ok (.iaload, 1) := by decide +kernel
theorem dL_law_124 : decode cL_law 124 = .ok (.aload_n 0, 1) := by decide +kernel
theorem dL_law_125 : decode cL_law 125 = .ok (.iload_n 3, 1) := by decide +kernel
theorem dL_law_126 : decode cL_law 126 = .ok (.iconst 4, 1) := by decide +kernel
theorem dL_law_127 : decode cL_law 127 = .ok (.iadd, 1) := by decide +kernel
theorem dL_law_128 : decode cL_law 128 = .ok (.iaload, 1) := by decide +kernel
theorem dL_law_129 : decode cL_law 129 = .ok (.invokevirtual 13, 3) := by decide +kernel
theorem dL_law_132 : decode cL_law 132 = .ok (.aload_n 2, 1) := by decide +kernel
theorem dL_law_133 : decode cL_law 133 = .ok (.aload_n 0, 1) := by decide +kernel
theorem dL_law_134 : decode cL_law 134 = .ok (.iload_n 3, 1) := by decide +kernel
theorem dL_law_135 : decode cL_law 135 = .ok (.iconst 1, 1) := by decide +kernel
theorem dL_law_136 : decode cL_law 136 = .ok (.iadd, 1) := by decide +kernel
theorem dL_law_137 : decode cL_law 137 = .ok (.iaload, 1) := by decide +kernel
theorem dL_law_138 : decode cL_law 138 = .ok (.aload_n 0, 1) := by decide +kernel
theorem dL_law_139 : decode cL_law 139 = .ok (.iload_n 3, 1) := by decide +kernel
theorem dL_law_140 : decode cL_law 140 = .ok (.iconst 2, 1) := by decide +kernel
theorem dL_law_141 : decode cL_law 141 = .ok (.iadd, 1) := by decide +kernel
theorem dL_law_142 : decode cL_law 142 = .ok (.iaload, 1) := by decide +kernel
theorem dL_law_143 : decode cL_law 143 = .ok (.aload_n 0, 1) := by decide +kernel
theorem dL_law_144 : decode cL_law 144 = .ok (.iload_n 3, 1) := by decide +kernel
theorem dL_law_145 : decode cL_law 145 = .ok (.iconst 3, 1) := by decide +kernel
theorem dL_law_146 : decode cL_law 146 = .ok (.iadd, 1) := by decide +kernel
theorem dL_law_147 : decode cL_law 147 = .ok (.iaload, 1) := by decide +kernel
theorem dL_law_148 : decode cL_law 148 = .ok (.aload_n 0, 1) := by decide +kernel
theorem dL_law_149 : decode cL_law 149 = .ok (.iload_n 3, 1) := by decide +kernel
theorem dL_law_150 : decode cL_law 150 = .ok (.iconst 4, 1) := by decide +kernel
theorem dL_law_151 : decode cL_law 151 = .ok (.iadd, 1) := by decide +kernel
theorem dL_law_152 : decode cL_law 152 = .ok (.iaload, 1) := by decide +kernel
theorem dL_law_153 : decode cL_law 153 = .ok (.invokevirtual 17, 3) := by decide +kernel
theorem dL_law_156 : decode cL_law 156 = .ok (.if_icmp .eq 367, 3) := by decide +kernel
theorem dL_law_159 : decode cL_law 159 = .ok (.iconst 0, 1) := by decide +kernel
theorem dL_law_160 : decode cL_law 160 = .ok (.ireturn, 1) := by decide +kernel
theorem dL_law_161 : decode cL_law 161 = .ok (.aload_n 1, 1) := by decide +kernel
theorem dL_law_162 : decode cL_law 162 = .ok (.invokevirtual 18, 3) := by decide +kernel
theorem dL_law_165 : decode cL_law 165 = .ok (.aload_n 2, 1) := by decide +kernel
theorem dL_law_166 : decode cL_law 166 = .ok (.invokevirtual 22, 3) := by decide +kernel
theorem dL_law_169 : decode cL_law 169 = .ok (.if_icmp .eq 354, 3) := by decide +kernel
theorem dL_law_172 : decode cL_law 172 = .ok (.iconst 0, 1) := by decide +kernel
theorem dL_law_173 : decode cL_law 173 = .ok (.ireturn, 1) := by decide +kernel
theorem dL_law_174 : decode cL_law 174 = .ok (.aload_n 1, 1) := by decide +kernel
theorem dL_law_175 : decode cL_law 175 = .ok (.invokevirtual 23, 3) := by decide +kernel
theorem dL_law_178 : decode cL_law 178 = .ok (.aload_n 2, 1) := by decide +kernel
theorem dL_law_179 : decode cL_law 179 = .ok (.invokevirtual 26, 3) := by decide +kernel
theorem dL_law_182 : decode cL_law 182 = .ok (.if_icmp .eq 341, 3) := by decide +kernel
theorem dL_law_185 : decode cL_law 185 = .ok (.iconst 0, 1) := by decide +kernel
theorem dL_law_186 : decode cL_law 186 = .ok (.ireturn, 1) := by decide +kernel
theorem dL_law_187 : decode cL_law 187 = .ok (.aload_n 1, 1) := by decide +kernel
theorem dL_law_188 : decode cL_law 188 = .ok (.invokevirtual 27, 3) := by decide +kernel
theorem dL_law_191 : decode cL_law 191 = .ok (.aload_n 2, 1) := by decide +kernel
theorem dL_law_192 : decode cL_law 192 = .ok (.invokevirtual 30, 3) := by decide +kernel
theorem dL_law_195 : decode cL_law 195 = .ok (.if_icmp .eq 328, 3) := by decide +kernel
theorem dL_law_198 : decode cL_law 198 = .ok (.iconst 0, 1) := by decide +kernel
theorem dL_law_199 : decode cL_law 199 = .ok (.ireturn, 1) := by decide +kernel
theorem dL_law_200 : decode cL_law 200 = .ok (.aload_n 1, 1) := by decide +kernel
theorem dL_law_201 : decode cL_law 201 = .ok (.aload_n 0, 1) := by decide +kernel
theorem dL_law_202 : decode cL_law 202 = .ok (.iload_n 3, 1) := by decide +kernel
theorem dL_law_203 : decode cL_law 203 = .ok (.iconst 1, 1) := by decide +kernel
theorem dL_law_204 : decode cL_law 204 = .ok (.iadd, 1) := by decide +kernel
theorem dL_law_205 : decode cL_law 205 = .ok (.iaload, 1) := by decide +kernel
theorem dL_law_206 : decode cL_law 206 = .ok (.aload_n 0, 1) := by decide +kernel
theorem dL_law_207 : decode cL_law 207 = .ok (.iload_n 3, 1) := by decide +kernel
theorem dL_law_208 : decode cL_law 208 = .ok (.iconst 2, 1) := by decide +kernel
theorem dL_law_209 : decode cL_law 209 = .ok (.iadd, 1) := by decide +kernel
theorem dL_law_210 : decode cL_law 210 = .ok (.iaload, 1) := by decide +kernel
theorem dL_law_211 : decode cL_law 211 = .ok (.invokevirtual 31, 3) := by decide +kernel
theorem dL_law_214 : decode cL_law 214 = .ok (.aload_n 2, 1) := by decide +kernel
theorem dL_law_215 : decode cL_law 215 = .ok (.aload_n 0, 1) := by decide +kernel
theorem dL_law_216 : decode cL_law 216 = .ok (.iload_n 3, 1) := by decide +kernel
theorem dL_law_217 : decode cL_law 217 = .ok (.iconst 1, 1) := by decide +kernel
theorem dL_law_218 : decode cL_law 218 = .ok (.iadd, 1) := by decide +kernel
theorem dL_law_219 : decode cL_law 219 = .ok (.iaload, 1) := by decide +kernel
theorem dL_law_220 : decode cL_law 220 = .ok (.aload_n 0, 1) := by decide +kernel
theorem dL_law_221 : decode cL_law 221 = .ok (.iload_n 3, 1) := by decide +kernel
theorem dL_law_222 : decode cL_law 222 = .ok (.iconst 2, 1) := by decide +kernel
theorem dL_law_223 : decode cL_law 223 = .ok (.iadd, 1) := by decide +kernel
theorem dL_law_224 : decode cL_law 224 = .ok (.iaload, 1) := by decide +kernel
theorem dL_law_225 : decode cL_law 225 = .ok (.invokevirtual 35, 3) := by decide +kernel
theorem dL_law_228 : decode cL_law 228 = .ok (.if_icmp .eq 295, 3) := by decide +kernel
theorem dL_law_231 : decode cL_law 231 = .ok (.iconst 0, 1) := by decide +kernel
theorem dL_law_232 : decode cL_law 232 = .ok (.ireturn, 1) := by decide +kernel
end
section
set_option maxRecDepth 100000
theorem dL_law_233 : decode cL_law 233 = .ok (.aload_n 1, 1) := by decide +kernel
theorem dL_law_234 : decode cL_law 234 = .ok (.aload_n 0, 1) := by decide +kernel
theorem dL_law_235 : decode cL_law 235 = .ok (.iload_n 3, 1) := by decide +kernel
theorem dL_law_236 : decode cL_law 236 = .ok (.iconst 1, 1) := by decide +kernel
theorem dL_law_237 : decode cL_law 237 = .ok (.iadd, 1) := by decide +kernel
theorem dL_law_238 : decode cL_law 238 = .ok (.iaload, 1) := by decide +kernel
theorem dL_law_239 : decode cL_law 239 = .ok (.invokevirtual 36, 3) := by decide +kernel
theorem dL_law_242 : decode cL_law 242 = .ok (.aload_n 2, 1) := by decide +kernel
theorem dL_law_243 : decode cL_law 243 = .ok (.aload_n 0, 1) := by decide +kernel
theorem dL_law_244 : decode cL_law 244 = .ok (.iload_n 3, 1) := by decide +kernel
theorem dL_law_245 : decode cL_law 245 = .ok (.iconst 1, 1) := by decide +kernel
theorem dL_law_246 : decode cL_law 246 = .ok (.iadd, 1) := by decide +kernel
theorem dL_law_247 : decode cL_law 247 = .ok (.iaload, 1) := by decide +kernel
theorem dL_law_248 : decode cL_law 248 = .ok (.invokevirtual 40, 3) := by decide +kernel
theorem dL_law_251 : decode cL_law 251 = .ok (.if_icmp .eq 272, 3) := by decide +kernel
theorem dL_law_254 : decode cL_law 254 = .ok (.iconst 0, 1) := by decide +kernel
theorem dL_law_255 : decode cL_law 255 = .ok (.ireturn, 1) := by decide +kernel
theorem dL_law_256 : decode cL_law 256 = .ok (.aload_n 1, 1) := by decide +kernel
theorem dL_law_257 : decode cL_law 257 = .ok (.aload_n 0, 1) := by decide +kernel
theorem dL_law_258 : decode cL_law 258 = .ok (.iload_n 3, 1) := by decide +kernel
theorem dL_law_259 : decode cL_law 259 = .ok (.iconst 1, 1) := by decide +kernel
theorem dL_law_260 : decode cL_law 260 = .ok (.iadd, 1) := by decide +kernel
theorem dL_law_261 : decode cL_law 261 = .ok (.iaload, 1) := by decide +kernel
theorem dL_law_262 : decode cL_law 262 = .ok (.aload_n 0, 1) := by decide +kernel
theorem dL_law_263 : decode cL_law 263 = .ok (.iload_n 3, 1) := by decide +kernel
theorem dL_law_264 : decode cL_law 264 = .ok (.iconst 2, 1) := by decide +kernel
theorem dL_law_265 : decode cL_law 265 = .ok (.iadd, 1) := by decide +kernel
theorem dL_law_266 : decode cL_law 266 = .ok (.iaload, 1) := by decide +kernel
theorem dL_law_267 : decode cL_law 267 = .ok (.invokevirtual 41, 3) := by decide +kernel
theorem dL_law_270 : decode cL_law 270 = .ok (.aload_n 2, 1) := by decide +kernel
theorem dL_law_271 : decode cL_law 271 = .ok (.aload_n 0, 1) := by decide +kernel
theorem dL_law_272 : decode cL_law 272 = .ok (.iload_n 3, 1) := by decide +kernel
theorem dL_law_273 : decode cL_law 273 = .ok (.iconst 1, 1) := by decide +kernel
theorem dL_law_274 : decode cL_law 274 = .ok (.iadd, 1) := by decide +kernel
theorem dL_law_275 : decode cL_law 275 = .ok (.iaload, 1) := by decide +kernel
theorem dL_law_276 : decode cL_law 276 = .ok (.aload_n 0, 1) := by decide +kernel
theorem dL_law_277 : decode cL_law 277 = .ok (.iload_n 3, 1) := by decide +kernel
theorem dL_law_278 : decode cL_law 278 = .ok (.iconst 2, 1) := by decide +kernel
theorem dL_law_279 : decode cL_law 279 = .ok (.iadd, 1) := by decide +kernel
theorem dL_law_280 : decode cL_law 280 = .ok (.iaload, 1) := by decide +kernel
theorem dL_law_281 : decode cL_law 281 = .ok (.invokevirtual 44, 3) := by decide +kernel
theorem dL_law_284 : decode cL_law 284 = .ok (.if_icmp .eq 239, 3) := by decide +kernel
theorem dL_law_287 : decode cL_law 287 = .ok (.iconst 0, 1) := by decide +kernel
theorem dL_law_288 : decode cL_law 288 = .ok (.ireturn, 1) := by decide +kernel
theorem dL_law_289 : decode cL_law 289 = .ok (.aload_n 1, 1) := by decide +kernel
theorem dL_law_290 : decode cL_law 290 = .ok (.aload_n 0, 1) := by decide +kernel
theorem dL_law_291 : decode cL_law 291 = .ok (.iload_n 3, 1) := by decide +kernel
theorem dL_law_292 : decode cL_law 292 = .ok (.iconst 1, 1) := by decide +kernel
theorem dL_law_293 : decode cL_law 293 = .ok (.iadd, 1) := by decide +kernel
theorem dL_law_294 : decode cL_law 294 = .ok (.iaload, 1) := by decide +kernel
theorem dL_law_295 : decode cL_law 295 = .ok (.aload_n 0, 1) := by decide +kernel
theorem dL_law_296 : decode cL_law 296 = .ok (.iload_n 3, 1) := by decide +kernel
theorem dL_law_297 : decode cL_law 297 = .ok (.iconst 2, 1) := by decide +kernel
theorem dL_law_298 : decode cL_law 298 = .ok (.iadd, 1) := by decide +kernel
theorem dL_law_299 : decode cL_law 299 = .ok (.iaload, 1) := by decide +kernel
theorem dL_law_300 : decode cL_law 300 = .ok (.aload_n 0, 1) := by decide +kernel
theorem dL_law_301 : decode cL_law 301 = .ok (.iload_n 3, 1) := by decide +kernel
theorem dL_law_302 : decode cL_law 302 = .ok (.iconst 3, 1) := by decide +kernel
theorem dL_law_303 : decode cL_law 303 = .ok (.iadd, 1) := by decide +kernel
theorem dL_law_304 : decode cL_law 304 = .ok (.iaload, 1) := by decide +kernel
theorem dL_law_305 : decode cL_law 305 = .ok (.aload_n 0, 1) := by decide +kernel
theorem dL_law_306 : decode cL_law 306 = .ok (.iload_n 3, 1) := by decide +kernel
theorem dL_law_307 : decode cL_law 307 = .ok (.iconst 4, 1) := by decide +kernel
theorem dL_law_308 : decode cL_law 308 = .ok (.iadd, 1) := by decide +kernel
theorem dL_law_309 : decode cL_law 309 = .ok (.iaload, 1) := by decide +kernel
theorem dL_law_310 : decode cL_law 310 = .ok (.invokevirtual 45, 3) := by decide +kernel
theorem dL_law_313 : decode cL_law 313 = .ok (.aload_n 2, 1) := by decide +kernel
theorem dL_law_314 : decode cL_law 314 = .ok (.aload_n 0, 1) := by decide +kernel
theorem dL_law_315 : decode cL_law 315 = .ok (.iload_n 3, 1) := by decide +kernel
theorem dL_law_316 : decode cL_law 316 = .ok (.iconst 1, 1) := by decide +kernel
theorem dL_law_317 : decode cL_law 317 = .ok (.iadd, 1) := by decide +kernel
theorem dL_law_318 : decode cL_law 318 = .ok (.iaload, 1) := by decide +kernel
theorem dL_law_319 : decode cL_law 319 = .ok (.aload_n 0, 1) := by decide +kernel
theorem dL_law_320 : decode cL_law 320 = .ok (.iload_n 3, 1) := by decide +kernel
theorem dL_law_321 : decode cL_law 321 = .ok (.iconst 2, 1) := by decide +kernel
theorem dL_law_322 : decode cL_law 322 = .ok (.iadd, 1) := by decide +kernel
theorem dL_law_323 : decode cL_law 323 = .ok (.iaload, 1) := by decide +kernel
theorem dL_law_324 : decode cL_law 324 = .ok (.aload_n 0, 1) := by decide +kernel
theorem dL_law_325 : decode cL_law 325 = .ok (.iload_n 3, 1) := by decide +kernel
theorem dL_law_326 : decode cL_law 326 = .ok (.iconst 3, 1) := by decide +kernel
theorem dL_law_327 : decode cL_law 327 = .ok (.iadd, 1) := by decide +kernel
theorem dL_law_328 : decode cL_law 328 = .ok (.iaload, 1) := by decide +kernel
theorem dL_law_329 : decode cL_law 329 = .ok (.aload_n 0, 1) := by decide +kernel
theorem dL_law_330 : decode cL_law 330 = .ok (.iload_n 3, 1) := by decide +kernel
theorem dL_law_331 : decode cL_law 331 = .ok (.iconst 4, 1) := by decide +kernel
theorem dL_law_332 : decode cL_law 332 = .ok (.iadd, 1) := by decide +kernel
theorem dL_law_333 : decode cL_law 333 = .ok (.iaload, 1) := by decide +kernel
theorem dL_law_334 : decode cL_law 334 = .ok (.invokevirtual 48, 3) := by decide +kernel
theorem dL_law_337 : decode cL_law 337 = .ok (.if_icmp .eq 186, 3) := by decide +kernel
theorem dL_law_340 : decode cL_law 340 = .ok (.iconst 0, 1) := by decide +kernel
theorem dL_law_341 : decode cL_law 341 = .ok (.ireturn, 1) := by decide +kernel
theorem dL_law_342 : decode cL_law 342 = .ok (.aload_n 1, 1) := by decide +kernel
theorem dL_law_343 : decode cL_law 343 = .ok (.aload_n 0, 1) := by decide +kernel
theorem dL_law_344 : decode cL_law 344 = .ok (.iload_n 3, 1) := by decide +kernel
theorem dL_law_345 : decode cL_law 345 = .ok (.iconst 1, 1) := by decide +kernel
theorem dL_law_346 : decode cL_law 346 = .ok (.iadd, 1) := by decide +kernel
theorem dL_law_347 : decode cL_law 347 = .ok (.iaload, 1) := by decide +kernel
theorem dL_law_348 : decode cL_law 348 = .ok (.invokevirtual 49, 3) := by decide +kernel
theorem dL_law_351 : decode cL_law 351 = .ok (.aload_n 2, 1) := by decide +kernel
theorem dL_law_352 : decode cL_law 352 = .ok (.aload_n 0, 1) := by decide +kernel
theorem dL_law_353 : decode cL_law 353 = .ok (.iload_n 3, 1) := by decide +kernel
theorem dL_law_354 : decode cL_law 354 = .ok (.iconst 1, 1) := by decide +kernel
theorem dL_law_355 : decode cL_law 355 = .ok (.iadd, 1) := by decide +kernel
theorem dL_law_356 : decode cL_law 356 = .ok (.iaload, 1) := by decide +kernel
theorem dL_law_357 : decode cL_law 357 = .ok (.invokevirtual 52, 3) := by decide +kernel
theorem dL_law_360 : decode cL_law 360 = .ok (.if_icmp .eq 163, 3) := by decide +kernel
theorem dL_law_363 : decode cL_law 363 = .ok (.iconst 0, 1) := by decide +kernel
theorem dL_law_364 : decode cL_law 364 = .ok (.ireturn, 1) := by decide +kernel
theorem dL_law_365 : decode cL_law 365 = .ok (.aload_n 1, 1) := by decide +kernel
theorem dL_law_366 : decode cL_law 366 = .ok (.invokevirtual 53, 3) := by decide +kernel
theorem dL_law_369 : decode cL_law 369 = .ok (.aload_n 2, 1) := by decide +kernel
theorem dL_law_370 : decode cL_law 370 = .ok (.invokevirtual 56, 3) := by decide +kernel
theorem dL_law_373 : decode cL_law 373 = .ok (.if_icmp .eq 150, 3) := by decide +kernel
theorem dL_law_376 : decode cL_law 376 = .ok (.iconst 0, 1) := by decide +kernel
theorem dL_law_377 : decode cL_law 377 = .ok (.ireturn, 1) := by decide +kernel
theorem dL_law_378 : decode cL_law 378 = .ok (.aload_n 1, 1) := by decide +kernel
theorem dL_law_379 : decode cL_law 379 = .ok (.aload_n 0, 1) := by decide +kernel
end
section
set_option maxRecDepth 100000
theorem dL_law_380 : decode cL_law 380 = .ok (.iload_n 3, 1) := by decide +kernel
theorem dL_law_381 : decode cL_law 381 = .ok (.iconst 1, 1) := by decide +kernel
theorem dL_law_382 : decode cL_law 382 = .ok (.iadd, 1) := by decide +kernel
theorem dL_law_383 : decode cL_law 383 = .ok (.iaload, 1) := by decide +kernel
theorem dL_law_384 : decode cL_law 384 = .ok (.invokevirtual 57, 3) := by decide +kernel
theorem dL_law_387 : decode cL_law 387 = .ok (.aload_n 2, 1) := by decide +kernel
theorem dL_law_388 : decode cL_law 388 = .ok (.aload_n 0, 1) := by decide +kernel
theorem dL_law_389 : decode cL_law 389 = .ok (.iload_n 3, 1) := by decide +kernel
theorem dL_law_390 : decode cL_law 390 = .ok (.iconst 1, 1) := by decide +kernel
theorem dL_law_391 : decode cL_law 391 = .ok (.iadd, 1) := by decide +kernel
theorem dL_law_392 : decode cL_law 392 = .ok (.iaload, 1) := by decide +kernel
theorem dL_law_393 : decode cL_law 393 = .ok (.invokevirtual 60, 3) := by decide +kernel
theorem dL_law_396 : decode cL_law 396 = .ok (.if_icmp .eq 127, 3) := by decide +kernel
theorem dL_law_399 : decode cL_law 399 = .ok (.iconst 0, 1) := by decide +kernel
theorem dL_law_400 : decode cL_law 400 = .ok (.ireturn, 1) := by decide +kernel
theorem dL_law_401 : decode cL_law 401 = .ok (.aload_n 1, 1) := by decide +kernel
theorem dL_law_402 : decode cL_law 402 = .ok (.invokevirtual 61, 3) := by decide +kernel
theorem dL_law_405 : decode cL_law 405 = .ok (.aload_n 2, 1) := by decide +kernel
theorem dL_law_406 : decode cL_law 406 = .ok (.invokevirtual 64, 3) := by decide +kernel
theorem dL_law_409 : decode cL_law 409 = .ok (.if_icmp .eq 114, 3) := by decide +kernel
theorem dL_law_412 : decode cL_law 412 = .ok (.iconst 0, 1) := by decide +kernel
theorem dL_law_413 : decode cL_law 413 = .ok (.ireturn, 1) := by decide +kernel
theorem dL_law_414 : decode cL_law 414 = .ok (.aload_n 1, 1) := by decide +kernel
theorem dL_law_415 : decode cL_law 415 = .ok (.aload_n 0, 1) := by decide +kernel
theorem dL_law_416 : decode cL_law 416 = .ok (.iload_n 3, 1) := by decide +kernel
theorem dL_law_417 : decode cL_law 417 = .ok (.iconst 1, 1) := by decide +kernel
theorem dL_law_418 : decode cL_law 418 = .ok (.iadd, 1) := by decide +kernel
theorem dL_law_419 : decode cL_law 419 = .ok (.iaload, 1) := by decide +kernel
theorem dL_law_420 : decode cL_law 420 = .ok (.aload_n 0, 1) := by decide +kernel
theorem dL_law_421 : decode cL_law 421 = .ok (.iload_n 3, 1) := by decide +kernel
theorem dL_law_422 : decode cL_law 422 = .ok (.iconst 2, 1) := by decide +kernel
theorem dL_law_423 : decode cL_law 423 = .ok (.iadd, 1) := by decide +kernel
theorem dL_law_424 : decode cL_law 424 = .ok (.iaload, 1) := by decide +kernel
theorem dL_law_425 : decode cL_law 425 = .ok (.invokevirtual 65, 3) := by decide +kernel
theorem dL_law_428 : decode cL_law 428 = .ok (.aload_n 2, 1) := by decide +kernel
theorem dL_law_429 : decode cL_law 429 = .ok (.aload_n 0, 1) := by decide +kernel
theorem dL_law_430 : decode cL_law 430 = .ok (.iload_n 3, 1) := by decide +kernel
theorem dL_law_431 : decode cL_law 431 = .ok (.iconst 1, 1) := by decide +kernel
theorem dL_law_432 : decode cL_law 432 = .ok (.iadd, 1) := by decide +kernel
theorem dL_law_433 : decode cL_law 433 = .ok (.iaload, 1) := by decide +kernel
theorem dL_law_434 : decode cL_law 434 = .ok (.aload_n 0, 1) := by decide +kernel
theorem dL_law_435 : decode cL_law 435 = .ok (.iload_n 3, 1) := by decide +kernel
theorem dL_law_436 : decode cL_law 436 = .ok (.iconst 2, 1) := by decide +kernel
theorem dL_law_437 : decode cL_law 437 = .ok (.iadd, 1) := by decide +kernel
theorem dL_law_438 : decode cL_law 438 = .ok (.iaload, 1) := by decide +kernel
theorem dL_law_439 : decode cL_law 439 = .ok (.invokevirtual 68, 3) := by decide +kernel
theorem dL_law_442 : decode cL_law 442 = .ok (.if_icmp .eq 81, 3) := by decide +kernel
theorem dL_law_445 : decode cL_law 445 = .ok (.iconst 0, 1) := by decide +kernel
theorem dL_law_446 : decode cL_law 446 = .ok (.ireturn, 1) := by decide +kernel
theorem dL_law_447 : decode cL_law 447 = .ok (.aload_n 1, 1) := by decide +kernel
theorem dL_law_448 : decode cL_law 448 = .ok (.aload_n 0, 1) := by decide +kernel
theorem dL_law_449 : decode cL_law 449 = .ok (.iload_n 3, 1) := by decide +kernel
theorem dL_law_450 : decode cL_law 450 = .ok (.iconst 1, 1) := by decide +kernel
theorem dL_law_451 : decode cL_law 451 = .ok (.iadd, 1) := by decide +kernel
theorem dL_law_452 : decode cL_law 452 = .ok (.iaload, 1) := by decide +kernel
theorem dL_law_453 : decode cL_law 453 = .ok (.aload_n 0, 1) := by decide +kernel
theorem dL_law_454 : decode cL_law 454 = .ok (.iload_n 3, 1) := by decide +kernel
theorem dL_law_455 : decode cL_law 455 = .ok (.iconst 2, 1) := by decide +kernel
theorem dL_law_456 : decode cL_law 456 = .ok (.iadd, 1) := by decide +kernel
theorem dL_law_457 : decode cL_law 457 = .ok (.iaload, 1) := by decide +kernel
theorem dL_law_458 : decode cL_law 458 = .ok (.invokevirtual 69, 3) := by decide +kernel
theorem dL_law_461 : decode cL_law 461 = .ok (.aload_n 2, 1) := by decide +kernel
theorem dL_law_462 : decode cL_law 462 = .ok (.aload_n 0, 1) := by decide +kernel
theorem dL_law_463 : decode cL_law 463 = .ok (.iload_n 3, 1) := by decide +kernel
theorem dL_law_464 : decode cL_law 464 = .ok (.iconst 1, 1) := by decide +kernel
theorem dL_law_465 : decode cL_law 465 = .ok (.iadd, 1) := by decide +kernel
theorem dL_law_466 : decode cL_law 466 = .ok (.iaload, 1) := by decide +kernel
theorem dL_law_467 : decode cL_law 467 = .ok (.aload_n 0, 1) := by decide +kernel
theorem dL_law_468 : decode cL_law 468 = .ok (.iload_n 3, 1) := by decide +kernel
theorem dL_law_469 : decode cL_law 469 = .ok (.iconst 2, 1) := by decide +kernel
theorem dL_law_470 : decode cL_law 470 = .ok (.iadd, 1) := by decide +kernel
theorem dL_law_471 : decode cL_law 471 = .ok (.iaload, 1) := by decide +kernel
theorem dL_law_472 : decode cL_law 472 = .ok (.invokevirtual 72, 3) := by decide +kernel
theorem dL_law_475 : decode cL_law 475 = .ok (.if_icmp .eq 48, 3) := by decide +kernel
theorem dL_law_478 : decode cL_law 478 = .ok (.iconst 0, 1) := by decide +kernel
theorem dL_law_479 : decode cL_law 479 = .ok (.ireturn, 1) := by decide +kernel
theorem dL_law_480 : decode cL_law 480 = .ok (.aload_n 1, 1) := by decide +kernel
theorem dL_law_481 : decode cL_law 481 = .ok (.aload_n 0, 1) := by decide +kernel
theorem dL_law_482 : decode cL_law 482 = .ok (.iload_n 3, 1) := by decide +kernel
theorem dL_law_483 : decode cL_law 483 = .ok (.iconst 1, 1) := by decide +kernel
theorem dL_law_484 : decode cL_law 484 = .ok (.iadd, 1) := by decide +kernel
theorem dL_law_485 : decode cL_law 485 = .ok (.iaload, 1) := by decide +kernel
theorem dL_law_486 : decode cL_law 486 = .ok (.aload_n 0, 1) := by decide +kernel
theorem dL_law_487 : decode cL_law 487 = .ok (.iload_n 3, 1) := by decide +kernel
theorem dL_law_488 : decode cL_law 488 = .ok (.iconst 2, 1) := by decide +kernel
theorem dL_law_489 : decode cL_law 489 = .ok (.iadd, 1) := by decide +kernel
theorem dL_law_490 : decode cL_law 490 = .ok (.iaload, 1) := by decide +kernel
theorem dL_law_491 : decode cL_law 491 = .ok (.aload_n 0, 1) := by decide +kernel
theorem dL_law_492 : decode cL_law 492 = .ok (.iload_n 3, 1) := by decide +kernel
theorem dL_law_493 : decode cL_law 493 = .ok (.iconst 3, 1) := by decide +kernel
theorem dL_law_494 : decode cL_law 494 = .ok (.iadd, 1) := by decide +kernel
theorem dL_law_495 : decode cL_law 495 = .ok (.iaload, 1) := by decide +kernel
theorem dL_law_496 : decode cL_law 496 = .ok (.invokevirtual 73, 3) := by decide +kernel
theorem dL_law_499 : decode cL_law 499 = .ok (.aload_n 2, 1) := by decide +kernel
theorem dL_law_500 : decode cL_law 500 = .ok (.aload_n 0, 1) := by decide +kernel
theorem dL_law_501 : decode cL_law 501 = .ok (.iload_n 3, 1) := by decide +kernel
theorem dL_law_502 : decode cL_law 502 = .ok (.iconst 1, 1) := by decide +kernel
theorem dL_law_503 : decode cL_law 503 = .ok (.iadd, 1) := by decide +kernel
theorem dL_law_504 : decode cL_law 504 = .ok (.iaload, 1) := by decide +kernel
theorem dL_law_505 : decode cL_law 505 = .ok (.aload_n 0, 1) := by decide +kernel
theorem dL_law_506 : decode cL_law 506 = .ok (.iload_n 3, 1) := by decide +kernel
theorem dL_law_507 : decode cL_law 507 = .ok (.iconst 2, 1) := by decide +kernel
theorem dL_law_508 : decode cL_law 508 = .ok (.iadd, 1) := by decide +kernel
theorem dL_law_509 : decode cL_law 509 = .ok (.iaload, 1) := by decide +kernel
theorem dL_law_510 : decode cL_law 510 = .ok (.aload_n 0, 1) := by decide +kernel
theorem dL_law_511 : decode cL_law 511 = .ok (.iload_n 3, 1) := by decide +kernel
theorem dL_law_512 : decode cL_law 512 = .ok (.iconst 3, 1) := by decide +kernel
theorem dL_law_513 : decode cL_law 513 = .ok (.iadd, 1) := by decide +kernel
theorem dL_law_514 : decode cL_law 514 = .ok (.iaload, 1) := by decide +kernel
theorem dL_law_515 : decode cL_law 515 = .ok (.invokevirtual 77, 3) := by decide +kernel
theorem dL_law_518 : decode cL_law 518 = .ok (.if_icmp .eq 5, 3) := by decide +kernel
theorem dL_law_521 : decode cL_law 521 = .ok (.iconst 0, 1) := by decide +kernel
theorem dL_law_522 : decode cL_law 522 = .ok (.ireturn, 1) := by decide +kernel
theorem dL_law_523 : decode cL_law 523 = .ok (.iinc 3 5, 3) := by decide +kernel
theorem dL_law_526 : decode cL_law 526 = .ok (.goto (-508), 3) := by decide +kernel
theorem dL_law_529 : decode cL_law 529 = .ok (.iconst 1, 1) := by decide +kernel
theorem dL_law_530 : decode cL_law 530 = .ok (.ireturn, 1) := by decide +kernel
end
section
/-! pasted: families of kit/laws/NUMBERS.to-paste and COUNTS.to-paste -/
/-! ===== order of ints, in all its forms, and through longs ===== -/
theorem fa_lt (a b : Int32) : a < b ↔ a.toInt < b.toInt := Int32.lt_iff_toInt_lt
theorem fa_le (a b : Int32) : a ≤ b ↔ a.toInt ≤ b.toInt := Int32.le_iff_toInt_le
theorem fa_eq (a b : Int32) : a = b ↔ a.toInt = b.toInt := Int32.toInt_inj.symm
theorem fa_lt64 (a b : Int64) : a < b ↔ a.toInt < b.toInt := Int64.lt_iff_toInt_lt
theorem fa_le64 (a b : Int64) : a ≤ b ↔ a.toInt ≤ b.toInt := Int64.le_iff_toInt_le
theorem fa_eq64 (a b : Int64) : a = b ↔ a.toInt = b.toInt := Int64.toInt_inj.symm
/-- a comparison of two ints taken as longs -/
theorem fa_wide_lt (a b : Int32) : a.toInt64 < b.toInt64 ↔ a < b := by rw [fa_lt64, fa_lt, Int32.toInt_toInt64, Int32.toInt_toInt64]
theorem fa_wide_le (a b : Int32) : a.toInt64 ≤ b.toInt64 ↔ a ≤ b := by rw [fa_le64, fa_le, Int32.toInt_toInt64, Int32.toInt_toInt64]
theorem fa_wide_eq (a b : Int32) : a.toInt64 = b.toInt64 ↔ a = b := by rw [fa_eq64, fa_eq, Int32.toInt_toInt64, Int32.toInt_toInt64]
/-- one strict comparison gives all the others -/
theorem fa_of_lt {a b : Int32} (h : a < b) : a ≤ b ∧ ¬ b ≤ a ∧ ¬ b < a ∧ a ≠ b ∧ b ≠ a := by
  rw [fa_lt] at h
  refine ⟨?_, ?_, ?_, ?_, ?_⟩
  · rw [fa_le]; omega
  · rw [fa_le]; omega
  · rw [fa_lt]; omega
  · intro e; rw [fa_eq] at e; omega
  · intro e; rw [fa_eq] at e; omega
theorem fa_of_nlt {a b : Int32} (h : ¬ a < b) : b ≤ a := by
  rw [fa_lt] at h
  rw [fa_le]
  omega
theorem fa_of_nle {a b : Int32} (h : ¬ a ≤ b) : b < a := by
  rw [fa_le] at h
  rw [fa_lt]
  omega
theorem fa_le_ne {a b : Int32} (h : a ≤ b) (h2 : a ≠ b) : a < b := by
  rw [fa_le] at h
  rw [fa_lt]
  have h3 : a.toInt ≠ b.toInt := fun e => h2 ((fa_eq a b).mpr e)
  omega
theorem fa_three (a b : Int32) : a < b ∨ a = b ∨ b < a := by
  rw [fa_lt, fa_lt, fa_eq]
  omega
theorem fa_trans {a b c : Int32} (h : a < b) (h2 : b ≤ c) : a < c := by
  rw [fa_lt] at *
  rw [fa_le] at h2
  omega
/-! ===== small literals as numbers ===== -/
theorem fa_and (a b : Nat) : nI a &&& nI b = nI (a &&& b) := by
  apply Int32.toBitVec_inj.1
  show BitVec.ofNat 32 a &&& BitVec.ofNat 32 b = BitVec.ofNat 32 (a &&& b)
  apply BitVec.eq_of_getLsbD_eq
  intro i hi
  simp [hi]
theorem fa_or (a b : Nat) : nI a ||| nI b = nI (a ||| b) := by
  apply Int32.toBitVec_inj.1
  show BitVec.ofNat 32 a ||| BitVec.ofNat 32 b = BitVec.ofNat 32 (a ||| b)
  apply BitVec.eq_of_getLsbD_eq
  intro i hi
  simp [hi]
/-- a store that changes nothing -/
theorem fa_upd_same {f : Nat → Int32} {i : Nat} {x : Int32} (h : f i = x) : upd f i x = f := by
  funext k
  by_cases e : k = i
  · subst e
    rw [pk_us, h]
  · rw [pk_un e]
/-- a store under a condition, told as one -/
theorem fa_upd_if (c : Prop) [Decidable c] (f : Nat → Int32) (i : Nat) (x : Int32) : (if c then upd f i x else f) = upd f i (if c then x else f i) := by
  by_cases h : c
  · rw [if_pos h, if_pos h]
  · rw [if_neg h, if_neg h, fa_upd_same rfl]
/-- two stores at one place, at two -/
theorem fa_upd_twice (f : Nat → Int32) (i : Nat) (x y : Int32) : upd (upd f i x) i y = upd f i y := by
  funext k
  by_cases e : k = i
  · subst e
    rw [pk_us, pk_us]
  · rw [pk_un e, pk_un e, pk_un e]
theorem fa_upd_swap (f : Nat → Int32) {i j : Nat} (h : i ≠ j) (x y : Int32) : upd (upd f i x) j y = upd (upd f j y) i x := by
  funext k
  by_cases e : k = i
  · subst e
    rw [pk_un h, pk_us, pk_us]
  · by_cases e2 : k = j
    · subst e2
      rw [pk_us, pk_un e, pk_us]
    · rw [pk_un e2, pk_un e, pk_un e, pk_un e2]
/-! ===== bits of a long that isn't negative ===== -/
theorem fb_andL (a b : Nat) : lN a &&& lN b = lN (a &&& b) := by
  apply Int64.toBitVec_inj.1
  show BitVec.ofNat 64 a &&& BitVec.ofNat 64 b = BitVec.ofNat 64 (a &&& b)
  apply BitVec.eq_of_getLsbD_eq
  intro i hi
  simp [hi]
theorem fb_orL (a b : Nat) : lN a ||| lN b = lN (a ||| b) := by
  apply Int64.toBitVec_inj.1
  show BitVec.ofNat 64 a ||| BitVec.ofNat 64 b = BitVec.ofNat 64 (a ||| b)
  apply BitVec.eq_of_getLsbD_eq
  intro i hi
  simp [hi]
theorem fb_xorL (a b : Nat) : lN a ^^^ lN b = lN (a ^^^ b) := by
  apply Int64.toBitVec_inj.1
  show BitVec.ofNat 64 a ^^^ BitVec.ofNat 64 b = BitVec.ofNat 64 (a ^^^ b)
  apply BitVec.eq_of_getLsbD_eq
  intro i hi
  simp [hi]
theorem fb_xorI (a b : Nat) : nI a ^^^ nI b = nI (a ^^^ b) := by
  apply Int32.toBitVec_inj.1
  show BitVec.ofNat 32 a ^^^ BitVec.ofNat 32 b = BitVec.ofNat 32 (a ^^^ b)
  apply BitVec.eq_of_getLsbD_eq
  intro i hi
  simp [hi]
theorem fb_maskL (n k : Nat) : lN n &&& lN (2 ^ k - 1) = lN (n % 2 ^ k) := by rw [fb_andL, Nat.and_two_pow_sub_one_eq_mod]
theorem fb_or_sumL {a k : Nat} (b : Nat) (h : a < 2 ^ k) : lN (2 ^ k * b) ||| lN a = lN (2 ^ k * b + a) := by rw [fb_orL, Nat.two_pow_add_eq_or_of_lt h]
theorem fb_lN_inj {a b : Nat} (ha : a < 2 ^ 63) (hb : b < 2 ^ 63) : lN a = lN b ↔ a = b := by
  constructor
  · intro h
    have h1 : (BitVec.ofNat 64 a).toNat = (BitVec.ofNat 64 b).toNat := congrArg (fun x : Int64 => x.toBitVec.toNat) h
    rw [BitVec.toNat_ofNat, BitVec.toNat_ofNat, Nat.mod_eq_of_lt (by omega), Nat.mod_eq_of_lt (by omega)] at h1
    exact h1
  · rintro rfl; rfl
theorem fb_bit_nat (n j : Nat) : n &&& 2 ^ j = 0 ↔ n.testBit j = false := by
  constructor
  · intro h
    have h1 : (n &&& 2 ^ j).testBit j = false := by rw [h]; simp
    rw [Nat.testBit_and] at h1
    simpa using h1
  · intro h
    apply Nat.eq_of_testBit_eq
    intro i
    rw [Nat.testBit_and]
    by_cases hi : j = i
    · subst hi; simp [h]
    · first | (simp [Nat.testBit_two_pow, hi]; done) | (simp [Nat.testBit_two_pow_of_ne hi]; done)
/-- one bit of a long -/
theorem fb_bitL {n j : Nat} (hj : j < 63) : lN n &&& lN (2 ^ j) = 0 ↔ n.testBit j = false := by
  have h2 : (2 : Nat) ^ j < 2 ^ 63 := Nat.pow_lt_pow_right (by decide) hj
  have hle : n &&& 2 ^ j ≤ 2 ^ j := Nat.and_le_right
  rw [fb_andL, ← fb_bit_nat, show (0 : Int64) = lN 0 from rfl]
  exact fb_lN_inj (by omega) (by decide)
/-- a bit set, a bit taken off -/
theorem fb_bit_set (n j i : Nat) : (n ||| 2 ^ j).testBit i = (n.testBit i || decide (i = j)) := by
  rw [Nat.testBit_or]
  by_cases h : j = i
  · subst h; simp
  · have h2 : ¬ i = j := fun e => h e.symm
    first | (simp [Nat.testBit_two_pow, h, h2]; done) | (simp [Nat.testBit_two_pow_of_ne h, h2]; done)
theorem fb_bit_flip (n j i : Nat) : (n ^^^ 2 ^ j).testBit i = (n.testBit i ^^ decide (i = j)) := by
  rw [Nat.testBit_xor]
  by_cases h : j = i
  · subst h; simp
  · have h2 : ¬ i = j := fun e => h e.symm
    first | (simp [Nat.testBit_two_pow, h, h2]; done) | (simp [Nat.testBit_two_pow_of_ne h, h2]; done)
/-! ===== a stretch of an array written over by a function ===== -/
/-! ===== signed ints as whole numbers, within bounds ===== -/
theorem fb_rng (x : Int32) : -2147483648 ≤ x.toInt ∧ x.toInt < 2147483648 := by
  have h1 := Int32.le_toInt x
  have h2 := Int32.toInt_lt x
  omega
theorem fb_bmod {z : Int} (h1 : -2147483648 ≤ z) (h2 : z < 2147483648) : z.bmod (2 ^ 32) = z := by
  rw [Int.bmod_eq_of_le (by omega) (by omega)]
theorem fb_addI {x y : Int32} (h1 : -2147483648 ≤ x.toInt + y.toInt) (h2 : x.toInt + y.toInt < 2147483648) : (x + y).toInt = x.toInt + y.toInt := by
  rw [Int32.toInt_add, fb_bmod h1 h2]
theorem fb_subI {x y : Int32} (h1 : -2147483648 ≤ x.toInt - y.toInt) (h2 : x.toInt - y.toInt < 2147483648) : (x - y).toInt = x.toInt - y.toInt := by
  rw [Int32.toInt_sub, fb_bmod h1 h2]
theorem fb_mulI {x y : Int32} (h1 : -2147483648 ≤ x.toInt * y.toInt) (h2 : x.toInt * y.toInt < 2147483648) : (x * y).toInt = x.toInt * y.toInt := by
  rw [Int32.toInt_mul, fb_bmod h1 h2]
theorem fb_negI {x : Int32} (h : x.toInt ≠ -2147483648) : (-x).toInt = -x.toInt := by
  have := fb_rng x
  rw [Int32.toInt_neg, fb_bmod (by omega) (by omega)]
theorem fb_ofI {z : Int} (h1 : -2147483648 ≤ z) (h2 : z < 2147483648) : (Int32.ofInt z).toInt = z := by
  rw [Int32.toInt_ofInt, fb_bmod h1 h2]
theorem fb_asI (x : Int32) : Int32.ofInt x.toInt = x := Int32.ofInt_toInt x
end
section
/-! the worlds of the two classes, joins and loops as rows, the abstract state and its operations -/
abbrev vwCl : List vw_C := [(RX0, TX0, 13), (RX1, TX1, 8)]
abbrev ha_F : Type := Nat → Int32
/-- the cells of a LoopVersioner at h: its arrays at q 0 .. q 9 -/
abbrev xw (dA dZ : ClassId) (h : Nat) (q : Nat → Nat) (mem bs ops tg sr sc la lb ur uw : ha_F) (cnt us sm : Int32) : va_W :=
  [(h, .inr (0, [.ref (q 0), .ref (q 1), .ref (q 2), .ref (q 3), .ref (q 4), .ref (q 5), .ref (q 6), .ref (q 7), .ref (q 8), .ref (q 9), .int cnt, .int us, .int sm])),
   (q 0, .inl (dA, 64, .inl mem)), (q 1, .inl (dA, 4, .inl bs)), (q 2, .inl (dA, 5, .inl ops)), (q 3, .inl (dA, 5, .inl tg)), (q 4, .inl (dA, 5, .inl sr)), (q 5, .inl (dA, 5, .inl sc)), (q 6, .inl (dA, 4, .inl la)), (q 7, .inl (dA, 4, .inl lb)), (q 8, .inl (dA, 15, .inl ur)), (q 9, .inl (dZ, 15, .inl uw))]
/-- the cells of a LoopVersionerModel at h -/
abbrev mw (dA : ClassId) (h : Nat) (q : Nat → Nat) (mem bs ops tg sr sc : ha_F) (cnt sm : Int32) : va_W :=
  [(h, .inr (1, [.ref (q 0), .ref (q 1), .int sm, .int cnt, .ref (q 2), .ref (q 3), .ref (q 4), .ref (q 5)])),
   (q 0, .inl (dA, 64, .inl mem)), (q 1, .inl (dA, 4, .inl bs)), (q 2, .inl (dA, 5, .inl ops)), (q 3, .inl (dA, 5, .inl tg)), (q 4, .inl (dA, 5, .inl sr)), (q 5, .inl (dA, 5, .inl sc))]
abbrev xT (dA dZ : ClassId) : List (ClassId × FieldType) := [(dA, .int), (dZ, .boolean)]
abbrev mT (dA : ClassId) : List (ClassId × FieldType) := [(dA, .int)]
/-- the abstract state: memory, bases, ops, targets, sources, seconds, count, sum -/
abbrev ha_U : Type := ha_F × ha_F × ha_F × ha_F × ha_F × ha_F × Int32 × Int32
/-- scratch: lanes, uses -/
abbrev ha_V : Type := ha_F × ha_F × ha_F × ha_F × Int32
abbrev xwU (dA dZ : ClassId) (h : Nat) (q : Nat → Nat) (u : ha_U) (v : ha_V) : va_W :=
  xw dA dZ h q u.1 u.2.1 u.2.2.1 u.2.2.2.1 u.2.2.2.2.1 u.2.2.2.2.2.1 v.1 v.2.1 v.2.2.1 v.2.2.2.1 u.2.2.2.2.2.2.1 v.2.2.2.2 u.2.2.2.2.2.2.2
abbrev mwU (dA : ClassId) (h : Nat) (q : Nat → Nat) (u : ha_U) : va_W :=
  mw dA h q u.1 u.2.1 u.2.2.1 u.2.2.2.1 u.2.2.2.2.1 u.2.2.2.2.2.1 u.2.2.2.2.2.2.1 u.2.2.2.2.2.2.2
/-- a reader's start: the world is there -/
abbrev ha_R (dC : Nat → ClassId) (dI : Nat → Nat → Nat) (as : List Value) (ws : va_W) (tys : List (ClassId × FieldType)) : Array Value → State → Prop :=
  va_Pc as (fun U => va_P (dC, dI) vwCl ws U.heap ∧ va_K (dC, dI) vwCl tys U)
theorem ha_R_blind {dC : Nat → ClassId} {dI : Nat → Nat → Nat} {as : List Value} {ws : va_W} {tys : List (ClassId × FieldType)} : FrameBlind (ha_R dC dI as ws tys) := by
  intro a U g mk q
  obtain ⟨q0, qP, qK⟩ := q
  exact ⟨q0, qP, va_K.moved (u := U) (U := U.calling g mk a) (Vm.Alike.refl U.vm) qK⟩
/-- a writer's start -/
abbrev ha_M (dC : Nat → ClassId) (dI : Nat → Nat → Nat) (as : List Value) (sz : Nat) (ws : va_W) (tys : List (ClassId × FieldType)) : Array Value → State → Prop :=
  va_Pc as (fun U => U.heap.size = sz ∧ va_P (dC, dI) vwCl ws U.heap ∧ va_K (dC, dI) vwCl tys U ∧ va_D (fun _ => True) ws)
theorem ha_M_blind {dC : Nat → ClassId} {dI : Nat → Nat → Nat} {as : List Value} {sz : Nat} {ws : va_W} {tys : List (ClassId × FieldType)} : FrameBlind (ha_M dC dI as sz ws tys) := by
  intro a U g mk q
  obtain ⟨q0, q1, qP, qK, qD⟩ := q
  exact ⟨q0, q1, qP, va_K.moved (u := U) (U := U.calling g mk a) (Vm.Alike.refl U.vm) qK, qD⟩
/-- a pure static's start -/
abbrev ha_N (as : List Value) : Array Value → State → Prop := va_Pc as (fun _ => True)
theorem ha_N_blind {as : List Value} : FrameBlind (ha_N as) := fun _ _ _ _ q => q
/-- a writer's end -/
abbrev ha_B (dC : Nat → ClassId) (dI : Nat → Nat → Nat) (A : Nat → Prop) (ws : va_W) (tys : List (ClassId × FieldType)) (t : State) : Prop :=
  va_P (dC, dI) vwCl ws t.heap ∧ va_K (dC, dI) vwCl tys t ∧ va_D A ws
section HA
variable {p : Program} {l : Launch} {e : Env} {R : Room} {s : State} {m : MethodId} {args : Array Value} {below : List Frame} {meth : Method} {c : Code} {H : Heap} {locs : List Loc} {cells slots : Nat} {Q : State → Prop}
/-- a join: what stands behind several ways, proved once -/
theorem ha_join {α : Type} {g0 : JFrame} (P : α → Prop) (g : α → JFrame) (K : ∀ v, P v → W p l e R s m args below meth c H locs cells slots Q (g v))
    (h : (∀ v, P v → W p l e R s m args below meth c H locs cells slots Q (g v)) → W p l e R s m args below meth c H locs cells slots Q g0) : W p l e R s m args below meth c H locs cells slots Q g0 := h K
/-- the same where the heap may have moved -/
theorem ha_joinH {α : Type} {g0 : JFrame} (P : α → Prop) (Hh : α → Heap) (Ll : α → List Loc) (g : α → JFrame) (K : ∀ v, P v → W p l e R s m args below meth c (Hh v) (Ll v) cells slots Q (g v))
    (h : (∀ v, P v → W p l e R s m args below meth c (Hh v) (Ll v) cells slots Q (g v)) → W p l e R s m args below meth c H locs cells slots Q g0) : W p l e R s m args below meth c H locs cells slots Q g0 := h K
/-- a loop: an invariant and a measure that falls -/
theorem ha_loop {σ : Type} (μ : σ → Nat) (I : σ → Prop) (Hh : σ → Heap) (Ll : σ → List Loc) (g : σ → JFrame)
    (step : ∀ x, I x → (∀ y, I y → μ y < μ x → W p l e R s m args below meth c (Hh y) (Ll y) cells slots Q (g y)) → W p l e R s m args below meth c (Hh x) (Ll x) cells slots Q (g x)) :
    ∀ x, I x → W p l e R s m args below meth c (Hh x) (Ll x) cells slots Q (g x) := by
  have key : ∀ n x, μ x < n → I x → W p l e R s m args below meth c (Hh x) (Ll x) cells slots Q (g x) := by
    intro n
    induction n with
    | zero => intro x h; exact absurd h (Nat.not_lt_zero _)
    | succ n ih =>
      intro x hx hI
      exact step x hI (fun y hy hlt => ih y (by omega) hy)
  exact fun x hI => key (μ x + 1) x (Nat.lt_succ_self _) hI
variable {cc : ByteArray} {pc : Nat} {ls : Array Slot} {rest : List Value} {D : va_G} {cl : List vw_C} {A : Nat → Prop} {a : Nat} {tys : List (ClassId × FieldType)} {ws : va_W} {H0 : Heap}
/-- int array read and written at a place that is a number -/
theorem ha_ld (hexec : p.tables.exec = Jvm.exec) (hb : c.code = cc) (hK : va_K D cl tys s) (hP : va_P D cl ws H) (q0 t0 : Nat) {cA : ClassId} {n : Nat} {f : Nat → Int32} (ha : ws[q0]? = some (a, .inl (cA, n, .inl f))) (ht : tys[t0]? = some (cA, .int)) {i : Int32} (k : Nat) (hi : i = nI k) (hk : k < n) (hn : n < 2 ^ 31) (hdg : decode cc pc = .ok (.iaload, 1))
    (kk : W p l e R s m args below meth c H locs cells slots Q (F0 m (pc + 1) ls (.int (f k) :: rest))) : W p l e R s m args below meth c H locs cells slots Q (F0 m pc ls (.int i :: .ref a :: rest)) := by
  subst hi
  refine va_iald hexec hb hK hP q0 t0 ha ht (vp_in_nI hk hn) hdg ?_
  rw [nI_clamp (by omega)]
  exact kk
theorem ha_st (hexec : p.tables.exec = Jvm.exec) (hb : c.code = cc) (hK : va_K D cl tys s) (hP : va_P D cl ws H) (hD : va_D A ws) (hS : va_S A H0 H locs) (q0 t0 : Nat) {cA : ClassId} {n : Nat} {f : Nat → Int32} (ha : ws[q0]? = some (a, .inl (cA, n, .inl f))) (ht : tys[t0]? = some (cA, .int)) {i : Int32} {x : Int32} (k : Nat) (hi : i = nI k) (hk : k < n) (hn : n < 2 ^ 31) (hdg : decode cc pc = .ok (.iastore, 1))
    (kk : ∀ (H1 : Heap) (locs1 : List Loc), va_P D cl (ws.set q0 (a, .inl (cA, n, .inl (upd f k x)))) H1 → va_D A (ws.set q0 (a, .inl (cA, n, .inl (upd f k x)))) → va_S A H0 H1 locs1 → W p l e R s m args below meth c H1 locs1 cells slots Q (F0 m (pc + 1) ls rest)) : W p l e R s m args below meth c H locs cells slots Q (F0 m pc ls (.int x :: .int i :: .ref a :: rest)) := by
  subst hi
  refine va_iast hexec hb hK hP hD hS q0 t0 ha ht (vp_in_nI hk hn) hdg ?_
  rw [nI_clamp (by omega)]
  exact kk
/-- boolean array likewise -/
theorem ha_zld (hexec : p.tables.exec = Jvm.exec) (hb : c.code = cc) (hK : va_K D cl tys s) (hP : va_P D cl ws H) (q0 t0 : Nat) {cA : ClassId} {n : Nat} {f : Nat → Int32} (ha : ws[q0]? = some (a, .inl (cA, n, .inl f))) (ht : tys[t0]? = some (cA, .boolean)) {i : Int32} (k : Nat) (hi : i = nI k) (hk : k < n) (hn : n < 2 ^ 31) (hdg : decode cc pc = .ok (.baload, 1))
    (kk : W p l e R s m args below meth c H locs cells slots Q (F0 m (pc + 1) ls (.int (f k) :: rest))) : W p l e R s m args below meth c H locs cells slots Q (F0 m pc ls (.int i :: .ref a :: rest)) := by
  subst hi
  refine va_zald hexec hb hK hP q0 t0 ha ht (vp_in_nI hk hn) hdg ?_
  rw [nI_clamp (by omega)]
  exact kk
theorem ha_zst (hexec : p.tables.exec = Jvm.exec) (hb : c.code = cc) (hK : va_K D cl tys s) (hP : va_P D cl ws H) (hD : va_D A ws) (hS : va_S A H0 H locs) (q0 t0 : Nat) {cA : ClassId} {n : Nat} {f : Nat → Int32} (ha : ws[q0]? = some (a, .inl (cA, n, .inl f))) (ht : tys[t0]? = some (cA, .boolean)) {i : Int32} {x : Int32} (k : Nat) (hi : i = nI k) (hk : k < n) (hn : n < 2 ^ 31) (hx : vp_nar .boolean x = x) (hdg : decode cc pc = .ok (.bastore, 1))
    (kk : ∀ (H1 : Heap) (locs1 : List Loc), va_P D cl (ws.set q0 (a, .inl (cA, n, .inl (upd f k x)))) H1 → va_D A (ws.set q0 (a, .inl (cA, n, .inl (upd f k x)))) → va_S A H0 H1 locs1 → W p l e R s m args below meth c H1 locs1 cells slots Q (F0 m (pc + 1) ls rest)) : W p l e R s m args below meth c H locs cells slots Q (F0 m pc ls (.int x :: .int i :: .ref a :: rest)) := by
  subst hi
  refine va_zast hexec hb hK hP hD hS q0 t0 ha ht (vp_in_nI hk hn) hdg ?_
  rw [nI_clamp (by omega), hx]
  exact kk
end HA
/-- two array classes of one element type are one -/
theorem ha_sameI {D : va_G} {cl : List vw_C} {tys : List (ClassId × FieldType)} {s : State} (hK : va_K D cl tys s) {i j : Nat} {a b : ClassId} (hi : tys[i]? = some (a, .int)) (hj : tys[j]? = some (b, .int)) : a = b := by
  have h1 : s.vm.findClass ("[" ++ FieldType.int.toString) = some a := (hK.2 i _ hi).2
  have h2 : s.vm.findClass ("[" ++ FieldType.int.toString) = some b := (hK.2 j _ hj).2
  exact Option.some.inj (h1.symm.trans h2)
/-! the abstract operations, as the code spells them -/
abbrev xRef (x : Int32) : Prop := ¬ x < 0 ∧ ¬ (512 : Int32) ≤ x ∧ ¬ ((x >>> ((4 : Int32) &&& 31)) &&& 7) = 7
abbrev xTwo (x : Int32) : Prop := ¬ x < 1 ∧ ¬ (4 : Int32) < x
def xSd (r : Int32) : Int32 := ((r >>> ((4 : Int32) &&& 31)) &&& 7) - 3
def xSt (bs : ha_F) (r : Int32) : Int32 := bs ((r >>> ((7 : Int32) &&& 31)) &&& 3).toNatClampNeg + (r &&& 15)
def xCell (bs : ha_F) (r i : Int32) : Int32 := (xSt bs r + xSd r * i) &&& 63
def xRes (op u w i : Int32) : Int32 := if op = 0 then u else if op = 1 ∨ op = 5 then u + w else if op = 2 then u - w else if op = 3 then u * w else if op = 4 then u ^^^ w else w + i
/-- the place of a reference in round i -/
def xN (bs : ha_F) (r : Int32) (i : Nat) : Nat := (xCell bs r (nI i)).toNatClampNeg
/-- memory and sum behind statement k in round i -/
def xW (bs ops sc mem : ha_F) (k i : Nat) : Int32 := if xTwo (ops k) then mem (xN bs (sc k) i) else sc k
def xVal (bs ops sr sc mem : ha_F) (k i : Nat) : Int32 := xRes (ops k) (mem (xN bs (sr k) i)) (xW bs ops sc mem k i) (nI i)
def st1 (bs ops tg sr sc : ha_F) (k i : Nat) (a : ha_F × Int32) : ha_F × Int32 :=
  if ops k = 6 then (a.1, a.2 + a.1 (xN bs (sr k) i) * xW bs ops sc a.1 k i) else (upd a.1 (xN bs (tg k) i) (xVal bs ops sr sc a.1 k i), a.2)
def ha_fold {α : Type} (f : Nat → α → α) : Nat → α → α
  | 0, a => a
  | n + 1, a => f n (ha_fold f n a)
def xRd (bs ops tg sr sc : ha_F) (n i : Nat) (a : ha_F × Int32) : ha_F × Int32 := ha_fold (fun k => st1 bs ops tg sr sc k i) n a
def xRn (bs ops tg sr sc : ha_F) (n t : Nat) (a : ha_F × Int32) : ha_F × Int32 := ha_fold (fun i => xRd bs ops tg sr sc n i) t a
def xVis (bs : ha_F) (r : Int32) : Nat → Nat → Bool
  | 0, _ => false
  | t + 1, c => xVis bs r t c || decide (xN bs r t = c)
def xCt (p : Nat → Bool) : Nat → Nat
  | 0 => 0
  | n + 1 => xCt p n + (if p n then 1 else 0)
def xFill (mem : ha_F) (a v st : Int32) (a0 : Nat) : Nat → ha_F
  | 0 => mem
  | n + 1 => upd (xFill mem a v st a0 n) (a0 + n) (v + (nI (a0 + n) - a) * st)
def xDig (mem : ha_F) : Nat → Int32
  | 0 => 0
  | n + 1 => xDig mem n + (nI n + 1) * mem n
def aStatement (u : ha_U) (op d s w : Int32) : Int32 × ha_U :=
  if op < 0 ∨ 7 < op then (-1, u) else if ¬ xRef d then (-2, u) else if ¬ xRef s then (-3, u) else if xTwo op ∧ ¬ xRef w then (-4, u) else if u.2.2.2.2.2.2.1 = 5 then (-5, u)
  else (u.2.2.2.2.2.2.1 + 1, (u.1, u.2.1, upd u.2.2.1 u.2.2.2.2.2.2.1.toNatClampNeg op, upd u.2.2.2.1 u.2.2.2.2.2.2.1.toNatClampNeg d, upd u.2.2.2.2.1 u.2.2.2.2.2.2.1.toNatClampNeg s, upd u.2.2.2.2.2.1 u.2.2.2.2.2.2.1.toNatClampNeg w, u.2.2.2.2.2.2.1 + 1, u.2.2.2.2.2.2.2))
def aCount (u : ha_U) (c : Int32) : ha_U := (u.1, u.2.1, u.2.2.1, u.2.2.2.1, u.2.2.2.2.1, u.2.2.2.2.2.1, c, u.2.2.2.2.2.2.2)
def aMem (u : ha_U) (f : ha_F) (s : Int32) : ha_U := (f, u.2.1, u.2.2.1, u.2.2.2.1, u.2.2.2.2.1, u.2.2.2.2.2.1, u.2.2.2.2.2.2.1, s)
def aRetract (u : ha_U) : Int32 × ha_U := if u.2.2.2.2.2.2.1 = 0 then (-1, u) else (u.2.2.2.2.2.2.1 - 1, aCount u (u.2.2.2.2.2.2.1 - 1))
def aClear (u : ha_U) : Int32 × ha_U := (u.2.2.2.2.2.2.1, aCount u 0)
def aBase (u : ha_U) (r v : Int32) : Int32 × ha_U :=
  if r < 0 ∨ 3 < r then (-1, u) else if v < 0 ∨ ¬ v < 64 then (-2, u) else (u.2.1 r.toNatClampNeg, (u.1, upd u.2.1 r.toNatClampNeg v, u.2.2))
def aRun (u : ha_U) (t : Int32) : Int32 × ha_U :=
  if t < 0 ∨ 40 < t then (-1, u) else
  ((xRn u.2.1 u.2.2.1 u.2.2.2.1 u.2.2.2.2.1 u.2.2.2.2.2.1 u.2.2.2.2.2.2.1.toNatClampNeg t.toNatClampNeg (u.1, u.2.2.2.2.2.2.2)).2,
   aMem u (xRn u.2.1 u.2.2.1 u.2.2.2.1 u.2.2.2.2.1 u.2.2.2.2.2.1 u.2.2.2.2.2.2.1.toNatClampNeg t.toNatClampNeg (u.1, u.2.2.2.2.2.2.2)).1 (xRn u.2.1 u.2.2.1 u.2.2.2.1 u.2.2.2.2.1 u.2.2.2.2.2.1 u.2.2.2.2.2.2.1.toNatClampNeg t.toNatClampNeg (u.1, u.2.2.2.2.2.2.2)).2)
def aPoke (u : ha_U) (c v : Int32) : Int32 × ha_U := if c < 0 ∨ ¬ c < 64 then (-1, u) else (0, aMem u (upd u.1 c.toNatClampNeg v) u.2.2.2.2.2.2.2)
def aFill (u : ha_U) (a b v st : Int32) : Int32 × ha_U :=
  if a < 0 ∨ b < a ∨ ¬ b < 64 then (-1, u) else (0, aMem u (xFill u.1 a v st a.toNatClampNeg (b.toNatClampNeg + 1 - a.toNatClampNeg)) u.2.2.2.2.2.2.2)
def aPeek (u : ha_U) (c : Int32) : Int32 := if c < 0 ∨ ¬ c < 64 then 0 else u.1 c.toNatClampNeg
def aSetTotal (u : ha_U) (v : Int32) : Int32 × ha_U := (u.2.2.2.2.2.2.2, aMem u u.1 v)
def aCellOf (u : ha_U) (r i : Int32) : Int32 := if ¬ xRef r then -1 else if i < 0 ∨ 39 < i then -2 else xCell u.2.1 r i
def aSpread (u : ha_U) (r t : Int32) : Int32 := if ¬ xRef r then -1 else if t < 0 ∨ 40 < t then -2 else nI (xCt (xVis u.2.1 r t.toNatClampNeg) 64)
def aMeet (u : ha_U) (p q t : Int32) : Int32 :=
  if ¬ xRef p ∨ ¬ xRef q then -1 else if t < 0 ∨ 40 < t then -2 else if xCt (fun c => xVis u.2.1 p t.toNatClampNeg c && xVis u.2.1 q t.toNatClampNeg c) 64 = 0 then 0 else 1
/-- what stands of the state all through a run of the law -/
def aInv (u : ha_U) : Prop := ∃ n : Nat, n ≤ 5 ∧ u.2.2.2.2.2.2.1 = nI n ∧ (∀ k, k < n → ¬ u.2.2.1 k < 0 ∧ ¬ 7 < u.2.2.1 k ∧ xRef (u.2.2.2.1 k) ∧ xRef (u.2.2.2.2.1 k) ∧ (xTwo (u.2.2.1 k) → xRef (u.2.2.2.2.2.1 k))) ∧ ∀ r, r < 4 → ¬ u.2.1 r < 0 ∧ u.2.1 r < 64
end
section
/-! plain facts: ways through the operations, places, cells -/
section PL
variable {op u w i : Int32}
theorem xRes_a (h : op = 0) : xRes op u w i = u := by unfold xRes; rw [if_pos h]
theorem xRes_b (h0 : ¬ op = 0) (h : op = 1 ∨ op = 5) : xRes op u w i = u + w := by unfold xRes; rw [if_neg h0, if_pos h]
theorem xRes_c (h0 : ¬ op = 0) (h1 : ¬ (op = 1 ∨ op = 5)) (h : op = 2) : xRes op u w i = u - w := by unfold xRes; rw [if_neg h0, if_neg h1, if_pos h]
theorem xRes_d (h0 : ¬ op = 0) (h1 : ¬ (op = 1 ∨ op = 5)) (h2 : ¬ op = 2) (h : op = 3) : xRes op u w i = u * w := by unfold xRes; rw [if_neg h0, if_neg h1, if_neg h2, if_pos h]
theorem xRes_e (h0 : ¬ op = 0) (h1 : ¬ (op = 1 ∨ op = 5)) (h2 : ¬ op = 2) (h3 : ¬ op = 3) (h : op = 4) : xRes op u w i = u ^^^ w := by unfold xRes; rw [if_neg h0, if_neg h1, if_neg h2, if_neg h3, if_pos h]
theorem xRes_f (h0 : ¬ op = 0) (h1 : ¬ (op = 1 ∨ op = 5)) (h2 : ¬ op = 2) (h3 : ¬ op = 3) (h4 : ¬ op = 4) : xRes op u w i = w + i := by unfold xRes; rw [if_neg h0, if_neg h1, if_neg h2, if_neg h3, if_neg h4]
end PL
section PS
variable {u : ha_U} {op d s w : Int32}
theorem aSt_1 (h1 : op < 0 ∨ 7 < op) : aStatement u op d s w = (-1, u) := by unfold aStatement; rw [if_pos h1]
theorem aSt_2 (h1 : ¬ (op < 0 ∨ 7 < op)) (h2 : ¬ xRef d) : aStatement u op d s w = (-2, u) := by unfold aStatement; rw [if_neg h1, if_pos h2]
theorem aSt_3 (h1 : ¬ (op < 0 ∨ 7 < op)) (h2 : xRef d) (h3 : ¬ xRef s) : aStatement u op d s w = (-3, u) := by unfold aStatement; rw [if_neg h1, if_neg (fun h => h h2), if_pos h3]
theorem aSt_4 (h1 : ¬ (op < 0 ∨ 7 < op)) (h2 : xRef d) (h3 : xRef s) (h4 : xTwo op ∧ ¬ xRef w) : aStatement u op d s w = (-4, u) := by unfold aStatement; rw [if_neg h1, if_neg (fun h => h h2), if_neg (fun h => h h3), if_pos h4]
theorem aSt_5 (h1 : ¬ (op < 0 ∨ 7 < op)) (h2 : xRef d) (h3 : xRef s) (h4 : ¬ (xTwo op ∧ ¬ xRef w)) (h5 : u.2.2.2.2.2.2.1 = 5) : aStatement u op d s w = (-5, u) := by unfold aStatement; rw [if_neg h1, if_neg (fun h => h h2), if_neg (fun h => h h3), if_neg h4, if_pos h5]
theorem aSt_6 (h1 : ¬ (op < 0 ∨ 7 < op)) (h2 : xRef d) (h3 : xRef s) (h4 : ¬ (xTwo op ∧ ¬ xRef w)) (h5 : ¬ u.2.2.2.2.2.2.1 = 5) : aStatement u op d s w = (u.2.2.2.2.2.2.1 + 1, (u.1, u.2.1, upd u.2.2.1 u.2.2.2.2.2.2.1.toNatClampNeg op, upd u.2.2.2.1 u.2.2.2.2.2.2.1.toNatClampNeg d, upd u.2.2.2.2.1 u.2.2.2.2.2.2.1.toNatClampNeg s, upd u.2.2.2.2.2.1 u.2.2.2.2.2.2.1.toNatClampNeg w, u.2.2.2.2.2.2.1 + 1, u.2.2.2.2.2.2.2)) := by unfold aStatement; rw [if_neg h1, if_neg (fun h => h h2), if_neg (fun h => h h3), if_neg h4, if_neg h5]
theorem aRt_1 (h : u.2.2.2.2.2.2.1 = 0) : aRetract u = (-1, u) := by unfold aRetract; rw [if_pos h]
theorem aRt_2 (h : ¬ u.2.2.2.2.2.2.1 = 0) : aRetract u = (u.2.2.2.2.2.2.1 - 1, aCount u (u.2.2.2.2.2.2.1 - 1)) := by unfold aRetract; rw [if_neg h]
theorem aBs_1 (h : d < 0 ∨ 3 < d) : aBase u d s = (-1, u) := by unfold aBase; rw [if_pos h]
theorem aBs_2 (h : ¬ (d < 0 ∨ 3 < d)) (h2 : s < 0 ∨ ¬ s < 64) : aBase u d s = (-2, u) := by unfold aBase; rw [if_neg h, if_pos h2]
theorem aBs_3 (h : ¬ (d < 0 ∨ 3 < d)) (h2 : ¬ (s < 0 ∨ ¬ s < 64)) : aBase u d s = (u.2.1 d.toNatClampNeg, (u.1, upd u.2.1 d.toNatClampNeg s, u.2.2)) := by unfold aBase; rw [if_neg h, if_neg h2]
theorem aPk_1 (h : d < 0 ∨ ¬ d < 64) : aPoke u d s = (-1, u) := by unfold aPoke; rw [if_pos h]
theorem aPk_2 (h : ¬ (d < 0 ∨ ¬ d < 64)) : aPoke u d s = (0, aMem u (upd u.1 d.toNatClampNeg s) u.2.2.2.2.2.2.2) := by unfold aPoke; rw [if_neg h]
theorem aPe_1 (h : d < 0 ∨ ¬ d < 64) : aPeek u d = 0 := by unfold aPeek; rw [if_pos h]
theorem aPe_2 (h : ¬ (d < 0 ∨ ¬ d < 64)) : aPeek u d = u.1 d.toNatClampNeg := by unfold aPeek; rw [if_neg h]
theorem aFl_1 (h : op < 0 ∨ d < op ∨ ¬ d < 64) : aFill u op d s w = (-1, u) := by unfold aFill; rw [if_pos h]
theorem aFl_2 (h : ¬ (op < 0 ∨ d < op ∨ ¬ d < 64)) : aFill u op d s w = (0, aMem u (xFill u.1 op s w op.toNatClampNeg (d.toNatClampNeg + 1 - op.toNatClampNeg)) u.2.2.2.2.2.2.2) := by unfold aFill; rw [if_neg h]
theorem aCo_1 (h : ¬ xRef d) : aCellOf u d s = -1 := by unfold aCellOf; rw [if_pos h]
theorem aCo_2 (h : xRef d) (h2 : s < 0 ∨ 39 < s) : aCellOf u d s = -2 := by unfold aCellOf; rw [if_neg (fun q => q h), if_pos h2]
theorem aCo_3 (h : xRef d) (h2 : ¬ (s < 0 ∨ 39 < s)) : aCellOf u d s = xCell u.2.1 d s := by unfold aCellOf; rw [if_neg (fun q => q h), if_neg h2]
theorem aSp_1 (h : ¬ xRef d) : aSpread u d s = -1 := by unfold aSpread; rw [if_pos h]
theorem aSp_2 (h : xRef d) (h2 : s < 0 ∨ 40 < s) : aSpread u d s = -2 := by unfold aSpread; rw [if_neg (fun q => q h), if_pos h2]
theorem aSp_3 (h : xRef d) (h2 : ¬ (s < 0 ∨ 40 < s)) : aSpread u d s = nI (xCt (xVis u.2.1 d s.toNatClampNeg) 64) := by unfold aSpread; rw [if_neg (fun q => q h), if_neg h2]
theorem aMe_1 (h : ¬ xRef op ∨ ¬ xRef d) : aMeet u op d s = -1 := by unfold aMeet; rw [if_pos h]
theorem aMe_2 (h : ¬ (¬ xRef op ∨ ¬ xRef d)) (h2 : s < 0 ∨ 40 < s) : aMeet u op d s = -2 := by unfold aMeet; rw [if_neg h, if_pos h2]
theorem aMe_3 (h : ¬ (¬ xRef op ∨ ¬ xRef d)) (h2 : ¬ (s < 0 ∨ 40 < s)) (h3 : xCt (fun c => xVis u.2.1 op s.toNatClampNeg c && xVis u.2.1 d s.toNatClampNeg c) 64 = 0) : aMeet u op d s = 0 := by unfold aMeet; rw [if_neg h, if_neg h2, if_pos h3]
theorem aMe_4 (h : ¬ (¬ xRef op ∨ ¬ xRef d)) (h2 : ¬ (s < 0 ∨ 40 < s)) (h3 : ¬ xCt (fun c => xVis u.2.1 op s.toNatClampNeg c && xVis u.2.1 d s.toNatClampNeg c) 64 = 0) : aMeet u op d s = 1 := by unfold aMeet; rw [if_neg h, if_neg h2, if_neg h3]
theorem aRu_1 (h : s < 0 ∨ 40 < s) : aRun u s = (-1, u) := by unfold aRun; rw [if_pos h]
theorem aRu_2 (h : ¬ (s < 0 ∨ 40 < s)) {n t : Nat} (hn : u.2.2.2.2.2.2.1 = nI n) (hn2 : n < 2 ^ 31) (ht : s = nI t) (ht2 : t < 2 ^ 31) {a : ha_F × Int32} (ha : a = xRn u.2.1 u.2.2.1 u.2.2.2.1 u.2.2.2.2.1 u.2.2.2.2.2.1 n t (u.1, u.2.2.2.2.2.2.2)) : aRun u s = (a.2, aMem u a.1 a.2) := by
  unfold aRun
  rw [if_neg h, hn, ht, nI_clamp hn2, nI_clamp ht2, ha]
end PS
/-! numbers -/
theorem ha_le63 (v : Int32) : v ≤ 63 ↔ v < 64 := by
  rw [fa_le, fa_lt, show (63 : Int32).toInt = 63 from rfl, show (64 : Int32).toInt = 64 from rfl]
  omega
theorem ha_in64 {v : Int32} (h : ¬ v < 0) (h2 : v < 64) : vp_in v 64 := by
  rw [vp_in_iff]
  rw [fa_lt, show (0 : Int32).toInt = 0 from rfl] at h
  rw [fa_lt, show (64 : Int32).toInt = 64 from rfl] at h2
  omega
theorem ha_in4 {v : Int32} (h : ¬ v < 0) (h2 : ¬ 3 < v) : vp_in v 4 := by
  rw [vp_in_iff]
  rw [fa_lt, show (0 : Int32).toInt = 0 from rfl] at h
  rw [fa_lt, show (3 : Int32).toInt = 3 from rfl] at h2
  omega
theorem ha_n5 {n : Nat} (hn : n ≤ 5) (h : ¬ nI n = 5) : n < 5 := by
  rcases Nat.lt_or_ge n 5 with q | q
  · exact q
  · exact absurd (by rw [show n = 5 by omega]; rfl) h
theorem ha_n5' {n : Nat} (hn : n ≤ 5) (h : nI n < 5) : n < 5 := (nI_ltI (a := n) (b := 5) (by omega) (by decide)).mp h
theorem ha_5 {n : Nat} (hn : n ≤ 5) (h : ¬ nI n < 5) : nI n = 5 := by
  rcases Nat.lt_or_ge n 5 with q | q
  · exact absurd (nI_lt q (by decide)) h
  · rw [show n = 5 by omega]; rfl
/-- a round count -/
theorem ha_t40 {t : Int32} (h : ¬ t < 0) (h2 : ¬ 40 < t) : ∃ T : Nat, T ≤ 40 ∧ t = nI T := by
  obtain ⟨j, hj, rfl⟩ := nI_of h
  refine ⟨j, ?_, rfl⟩
  rcases Nat.lt_or_ge 40 j with q | q
  · exact absurd (nI_lt q hj) h2
  · exact q
theorem ha_t39 {t : Int32} (h : ¬ t < 0) (h2 : ¬ 39 < t) : ∃ T : Nat, T ≤ 39 ∧ t = nI T := by
  obtain ⟨j, hj, rfl⟩ := nI_of h
  refine ⟨j, ?_, rfl⟩
  rcases Nat.lt_or_ge 39 j with q | q
  · exact absurd (nI_lt q hj) h2
  · exact q
/-- a reference as a number -/
theorem ha_ref {x : Int32} (h : ¬ x < 0) (h2 : ¬ (512 : Int32) ≤ x) : ∃ n : Nat, n < 512 ∧ x = nI n := by
  obtain ⟨j, hj, rfl⟩ := nI_of h
  refine ⟨j, ?_, rfl⟩
  rcases Nat.lt_or_ge j 512 with q | q
  · exact q
  · exact absurd (nI_le q hj) h2
theorem ha_511 (x : Int32) : 511 < x ↔ (512 : Int32) ≤ x := by
  rw [fa_le, fa_lt, show (511 : Int32).toInt = 511 from rfl, show (512 : Int32).toInt = 512 from rfl]
  omega
theorem ha_d1 : ∀ n : Fin 512, nI n.val / 16 - nI n.val / 16 / 8 * 8 = (nI n.val >>> ((4 : Int32) &&& 31)) &&& 7 := by decide +kernel
theorem ha_d2 : ∀ n : Fin 512, nI n.val / 128 &&& 3 = (nI n.val >>> ((7 : Int32) &&& 31)) &&& 3 := by decide +kernel
theorem ha_d3 : ∀ n : Fin 512, nI n.val - nI n.val / 16 * 16 = nI n.val &&& 15 := by decide +kernel
theorem ha_d4 : ∀ n : Fin 512, nI n.val &&& 511 = nI n.val := by decide +kernel
theorem ha_div7 {x : Int32} (h : ¬ x < 0) (h2 : ¬ (512 : Int32) ≤ x) : x / 16 - x / 16 / 8 * 8 = (x >>> ((4 : Int32) &&& 31)) &&& 7 := by
  obtain ⟨n, hn, rfl⟩ := ha_ref h h2
  exact ha_d1 ⟨n, hn⟩
theorem ha_div3 {x : Int32} (h : xRef x) : x / 128 &&& 3 = (x >>> ((7 : Int32) &&& 31)) &&& 3 := by
  obtain ⟨n, hn, rfl⟩ := ha_ref h.1 h.2.1
  exact ha_d2 ⟨n, hn⟩
theorem ha_rem16 {x : Int32} (h : xRef x) : x - x / 16 * 16 = x &&& 15 := by
  obtain ⟨n, hn, rfl⟩ := ha_ref h.1 h.2.1
  exact ha_d3 ⟨n, hn⟩
theorem ha_and511 {x : Int32} (h : xRef x) : x &&& 511 = x := by
  obtain ⟨n, hn, rfl⟩ := ha_ref h.1 h.2.1
  exact ha_d4 ⟨n, hn⟩
/-- the reference's way to the cell -/
theorem ha_place {bs : ha_F} {r i : Int32} (h : xRef r) : (bs (r / 128 &&& 3).toNatClampNeg + (r - r / 16 * 16) + (r / 16 - r / 16 / 8 * 8 - 3) * i) &&& 63 = xCell bs r i := by
  rw [ha_div3 h, ha_rem16 h, ha_div7 h.1 h.2.1]
  rfl
/-- masks and sums -/
theorem ha_m63 (a s : Int32) : ((a &&& 63) + s) &&& 63 = (a + s) &&& 63 := by
  rw [pk_and ((a &&& 63) + s) 6 (by decide), pk_and (a + s) 6 (by decide), pk_and a 6 (by decide)]
  congr 1
  have e : ∀ x y : Int32, (x + y).toBitVec.toNat = (x.toBitVec.toNat + y.toBitVec.toNat) % 2 ^ 32 := fun x y => by rw [Int32.toBitVec_add, BitVec.toNat_add]
  rw [e, e, pk_tn (by omega)]
  omega
theorem xCell_0 (bs : ha_F) (r : Int32) : xSt bs r &&& 63 = xCell bs r (nI 0) := by
  unfold xCell
  rw [nI_0, Int32.mul_zero, Int32.add_zero]
theorem xCell_s (bs : ha_F) (r : Int32) (i : Nat) : (xCell bs r (nI i) + xSd r) &&& 63 = xCell bs r (nI (i + 1)) := by
  unfold xCell
  rw [ha_m63, ← nI_1, Int32.mul_add, Int32.mul_one, Int32.add_assoc]
theorem xN_lt (bs : ha_F) (r : Int32) (i : Nat) : xN bs r i < 64 := by
  unfold xN xCell
  obtain ⟨j, hj, e⟩ := pk_andE (xSt bs r + xSd r * nI i) (m := 63) 6 (by decide)
  rw [e, nI_clamp (by omega)]
  exact hj
theorem xCell_N (bs : ha_F) (r : Int32) (i : Nat) : xCell bs r (nI i) = nI (xN bs r i) := by
  unfold xN xCell
  obtain ⟨j, hj, e⟩ := pk_andE (xSt bs r + xSd r * nI i) (m := 63) 6 (by decide)
  rw [e, nI_clamp (by omega)]
theorem xCell_in (bs : ha_F) (r i : Int32) : vp_in (xCell bs r i) 64 := pk_andIn _ 6 (by decide) (by decide)
/-- where a line of cells stands in round i -/
theorem xLine_s (bs : ha_F) (r : Int32) (i : Nat) : xSt bs r + xSd r * nI i + xSd r = xSt bs r + xSd r * nI (i + 1) := by
  rw [← nI_1, Int32.mul_add, Int32.mul_one, Int32.add_assoc]
/-! the operations keep the state sound -/
theorem aInv_0 : aInv (fun _ => 0, fun _ => 0, fun _ => 0, fun _ => 0, fun _ => 0, fun _ => 0, 0, 0) :=
  ⟨0, by decide, nI_0.symm, fun k hk => absurd hk (Nat.not_lt_zero k), fun r _ => ⟨show ¬ (0 : Int32) < 0 by decide, show (0 : Int32) < 64 by decide⟩⟩
theorem aInv_statement {u : ha_U} (hu : aInv u) (op d s w : Int32) : aInv (aStatement u op d s w).2 := by
  by_cases h1 : op < 0 ∨ 7 < op
  · rw [aSt_1 h1]; exact hu
  by_cases h2 : xRef d
  · by_cases h3 : xRef s
    · by_cases h4 : xTwo op ∧ ¬ xRef w
      · rw [aSt_4 h1 h2 h3 h4]; exact hu
      · by_cases h5 : u.2.2.2.2.2.2.1 = 5
        · rw [aSt_5 h1 h2 h3 h4 h5]; exact hu
        · rw [aSt_6 h1 h2 h3 h4 h5]
          obtain ⟨n, hn, hc, hk, hb⟩ := hu
          rw [hc] at h5
          have hn5 := ha_n5 hn h5
          refine ⟨n + 1, hn5, by rw [hc]; exact nI_1 n, fun k hk2 => ?_, hb⟩
          rw [hc, nI_clamp (by omega)]
          by_cases e : k = n
          · subst e
            simp only [pk_us]
            exact ⟨fun q => h1 (Or.inl q), fun q => h1 (Or.inr q), h2, h3, fun q => Decidable.byContradiction fun z => h4 ⟨q, z⟩⟩
          · simp only [pk_un e]
            exact hk k (by omega)
    · rw [aSt_3 h1 h2 h3]; exact hu
  · rw [aSt_2 h1 h2]; exact hu
theorem aInv_retract {u : ha_U} (hu : aInv u) : aInv (aRetract u).2 := by
  by_cases h : u.2.2.2.2.2.2.1 = 0
  · rw [aRt_1 h]; exact hu
  · rw [aRt_2 h]
    obtain ⟨n, hn, hc, hk, hb⟩ := hu
    cases n with
    | zero => rw [hc, nI_0] at h; exact absurd rfl h
    | succ n => exact ⟨n, by omega, by show u.2.2.2.2.2.2.1 - 1 = nI n; rw [hc, nI_pred], fun k hk2 => hk k (by omega), hb⟩
theorem aInv_clear {u : ha_U} (hu : aInv u) : aInv (aClear u).2 := by
  obtain ⟨n, hn, hc, hk, hb⟩ := hu
  exact ⟨0, by decide, nI_0.symm, fun k hk2 => absurd hk2 (Nat.not_lt_zero k), hb⟩
theorem aInv_mem {u : ha_U} (hu : aInv u) (f : ha_F) (s : Int32) : aInv (aMem u f s) := hu
theorem aInv_base {u : ha_U} (hu : aInv u) (r v : Int32) : aInv (aBase u r v).2 := by
  by_cases h : r < 0 ∨ 3 < r
  · rw [aBs_1 h]; exact hu
  · by_cases h2 : v < 0 ∨ ¬ v < 64
    · rw [aBs_2 h h2]; exact hu
    · rw [aBs_3 h h2]
      obtain ⟨n, hn, hc, hk, hb⟩ := hu
      refine ⟨n, hn, hc, hk, fun r2 hr2 => ?_⟩
      by_cases e : r2 = r.toNatClampNeg
      · subst e
        simp only [pk_us]
        exact ⟨fun q => h2 (Or.inl q), Decidable.byContradiction fun q => h2 (Or.inr q)⟩
      · simp only [pk_un e]
        exact hb r2 hr2
theorem aInv_run {u : ha_U} (hu : aInv u) (t : Int32) : aInv (aRun u t).2 := by
  unfold aRun
  split
  · exact hu
  · exact hu
theorem aInv_poke {u : ha_U} (hu : aInv u) (r v : Int32) : aInv (aPoke u r v).2 := by
  unfold aPoke
  split
  · exact hu
  · exact hu
theorem aInv_fill {u : ha_U} (hu : aInv u) (a b v s : Int32) : aInv (aFill u a b v s).2 := by
  unfold aFill
  split
  · exact hu
  · exact hu
theorem aInv_setTotal {u : ha_U} (hu : aInv u) (v : Int32) : aInv (aSetTotal u v).2 := hu
/-- the set of cells of the first t rounds, as bits -/
def xSet (bs : ha_F) (r : Int32) : Nat → Int64
  | 0 => 0
  | t + 1 => xSet bs r t ||| ((1 : Int64) <<< ((xCell bs r (nI t)).toInt64 &&& 63))
def xOnes (x : Int64) : Int32 :=
  let y := x - ((x.toUInt64 >>> ((1 : Int32).toInt64.toUInt64 &&& Int64.toUInt64 63)).toInt64 &&& 6148914691236517205)
  let z := (y &&& 3689348814741910323) + ((y.toUInt64 >>> ((2 : Int32).toInt64.toUInt64 &&& Int64.toUInt64 63)).toInt64 &&& 3689348814741910323)
  let w := (z + (z.toUInt64 >>> ((4 : Int32).toInt64.toUInt64 &&& Int64.toUInt64 63)).toInt64) &&& 1085102592571150095
  (((w * 72340172838076673).toUInt64 >>> ((56 : Int32).toInt64.toUInt64 &&& Int64.toUInt64 63)).toInt64).toInt32
end
section
/-! the plain law of the four rounds: uses, lines of cells, clashes, rounds that may be moved -/
def uA (ops : ha_F) (k : Nat) : Nat := if ops k = 6 then 0 else 1
def uB (ops : ha_F) (k : Nat) : Nat := if ops k = 7 then 0 else 1
def uC (ops : ha_F) (k : Nat) : Nat := if xTwo (ops k) then 1 else 0
def uOff (ops : ha_F) : Nat → Nat
  | 0 => 0
  | k + 1 => uOff ops k + uA ops k + uB ops k + uC ops k
theorem uA_0 {ops : ha_F} {k : Nat} (h : ops k = 6) : uA ops k = 0 := if_pos h
theorem uA_1 {ops : ha_F} {k : Nat} (h : ¬ ops k = 6) : uA ops k = 1 := if_neg h
theorem uB_0 {ops : ha_F} {k : Nat} (h : ops k = 7) : uB ops k = 0 := if_pos h
theorem uB_1 {ops : ha_F} {k : Nat} (h : ¬ ops k = 7) : uB ops k = 1 := if_neg h
theorem uC_1 {ops : ha_F} {k : Nat} (h : xTwo (ops k)) : uC ops k = 1 := if_pos h
theorem uC_0 {ops : ha_F} {k : Nat} (h : ¬ xTwo (ops k)) : uC ops k = 0 := if_neg h
theorem uA_le (ops : ha_F) (k : Nat) : uA ops k ≤ 1 := by unfold uA; split <;> omega
theorem uB_le (ops : ha_F) (k : Nat) : uB ops k ≤ 1 := by unfold uB; split <;> omega
theorem uC_le (ops : ha_F) (k : Nat) : uC ops k ≤ 1 := by unfold uC; split <;> omega
theorem uOff_s (ops : ha_F) (k : Nat) : uOff ops (k + 1) = uOff ops k + uA ops k + uB ops k + uC ops k := rfl
theorem uOff_le (ops : ha_F) : ∀ k, uOff ops k ≤ 3 * k
  | 0 => Nat.le_refl _
  | k + 1 => by
    have h1 := uOff_le ops k
    have h2 := uA_le ops k
    have h3 := uB_le ops k
    have h4 := uC_le ops k
    rw [uOff_s]
    omega
theorem uOff_up (ops : ha_F) (a : Nat) : ∀ b, uOff ops a ≤ uOff ops (a + b)
  | 0 => Nat.le_refl _
  | b + 1 => by
    have h1 := uOff_up ops a b
    rw [show a + (b + 1) = a + b + 1 from rfl, uOff_s]
    omega
theorem uOff_lt (ops : ha_F) {k n : Nat} (h : k < n) : uOff ops k + uA ops k + uB ops k + uC ops k ≤ uOff ops n := by
  have h1 := uOff_up ops (k + 1) (n - (k + 1))
  rw [show k + 1 + (n - (k + 1)) = n by omega, uOff_s] at h1
  exact h1
theorem xTwo_6 {op : Int32} (h : xTwo op) : ¬ op = 6 := by rintro rfl; exact h.2 (by decide)
theorem xTwo_7 {op : Int32} (h : xTwo op) : ¬ op = 7 := by rintro rfl; exact h.2 (by decide)
/-- the list of uses holds statements 0 .. n - 1 -/
def LU (ops tg sr sc : ha_F) (n : Nat) (ur uw : ha_F) : Prop :=
  ∀ k, k < n → (¬ ops k = 6 → ur (uOff ops k) = tg k ∧ uw (uOff ops k) = 1) ∧ (¬ ops k = 7 → ur (uOff ops k + uA ops k) = sr k) ∧ (xTwo (ops k) → ur (uOff ops k + uA ops k + uB ops k) = sc k)
/-- a use more keeps what is listed -/
theorem LU_keep {ops tg sr sc : ha_F} {n : Nat} {ur uw : ha_F} (h : LU ops tg sr sc n ur uw) {m : Nat} (hm : uOff ops n ≤ m) (x y : Int32) : LU ops tg sr sc n (upd ur m x) (upd uw m y) := by
  intro k hk
  obtain ⟨h1, h2, h3⟩ := h k hk
  have hl := uOff_lt ops hk
  refine ⟨fun z => ?_, fun z => ?_, fun z => ?_⟩
  · have := uA_1 z
    rw [pk_un (by omega), pk_un (by omega)]
    exact h1 z
  · have := uB_1 z
    rw [pk_un (by omega)]
    exact h2 z
  · have := uC_1 z
    rw [pk_un (by omega)]
    exact h3 z
theorem LU_next {ops tg sr sc : ha_F} {n : Nat} {ur uw : ha_F} (h : LU ops tg sr sc n ur uw) (h1 : ¬ ops n = 6 → ur (uOff ops n) = tg n ∧ uw (uOff ops n) = 1) (h2 : ¬ ops n = 7 → ur (uOff ops n + uA ops n) = sr n) (h3 : xTwo (ops n) → ur (uOff ops n + uA ops n + uB ops n) = sc n) : LU ops tg sr sc (n + 1) ur uw := by
  intro k hk
  by_cases e : k = n
  · subst e
    exact ⟨h1, h2, h3⟩
  · exact h k (by omega)
/-! lines -/
theorem ha_8 {s : Int} (h : -3 ≤ s ∧ s ≤ 4) : s = -3 ∨ s = -2 ∨ s = -1 ∨ s = 0 ∨ s = 1 ∨ s = 2 ∨ s = 3 ∨ s = 4 := by omega
theorem mc_lo {a s lo : Int} {T i : Nat} (hs : -3 ≤ s ∧ s ≤ 4) (hi : i < T) (h1 : lo ≤ a) (h2 : lo ≤ a + s * ((T : Int) - 1)) : lo ≤ a + s * (i : Int) := by
  rcases ha_8 hs with rfl | rfl | rfl | rfl | rfl | rfl | rfl | rfl <;> omega
theorem mc_hi {a s hi : Int} {T i : Nat} (hs : -3 ≤ s ∧ s ≤ 4) (hT : i < T) (h1 : a ≤ hi) (h2 : a + s * ((T : Int) - 1) ≤ hi) : a + s * (i : Int) ≤ hi := by
  rcases ha_8 hs with rfl | rfl | rfl | rfl | rfl | rfl | rfl | rfl <;> omega
theorem mc_A {a s : Int} (hs : -3 ≤ s ∧ s ≤ 4) (h0 : s ≠ 0) {i j : Nat} (hne : i ≠ j) : a + s * (i : Int) ≠ a + s * (j : Int) := by
  rcases ha_8 hs with rfl | rfl | rfl | rfl | rfl | rfl | rfl | rfl <;> omega
theorem mc_C {a b s z : Int} {g w : Nat} (hs : -3 ≤ s ∧ s ≤ 4) (hw : (w : Int) = s ∨ (w : Int) = -s) (hz : s = z ∨ s = -z) (hg : (g : Int) = a - b ∨ (g : Int) = b - a) (hm : g % w ≠ 0) (i j : Nat) : a + s * (i : Int) ≠ b + z * (j : Int) := by
  rcases ha_8 hs with rfl | rfl | rfl | rfl | rfl | rfl | rfl | rfl
  · obtain rfl : w = 3 := by omega
    rcases hz with hz | hz
    · subst hz; omega
    · obtain rfl : z = 3 := by omega
      omega
  · obtain rfl : w = 2 := by omega
    rcases hz with hz | hz
    · subst hz; omega
    · obtain rfl : z = 2 := by omega
      omega
  · obtain rfl : w = 1 := by omega
    omega
  · obtain rfl : w = 0 := by omega
    rcases hz with hz | hz
    · subst hz; omega
    · obtain rfl : z = 0 := by omega
      omega
  · obtain rfl : w = 1 := by omega
    omega
  · obtain rfl : w = 2 := by omega
    rcases hz with hz | hz
    · subst hz; omega
    · obtain rfl : z = -2 := by omega
      omega
  · obtain rfl : w = 3 := by omega
    rcases hz with hz | hz
    · subst hz; omega
    · obtain rfl : z = -3 := by omega
      omega
  · obtain rfl : w = 4 := by omega
    rcases hz with hz | hz
    · subst hz; omega
    · obtain rfl : z = -4 := by omega
      omega
theorem xSd_8 : ∀ j : Fin 8, -3 ≤ (nI j.val - 3).toInt ∧ (nI j.val - 3).toInt ≤ 4 := by decide +kernel
theorem xSd_rng (r : Int32) : -3 ≤ (xSd r).toInt ∧ (xSd r).toInt ≤ 4 := by
  unfold xSd
  obtain ⟨j, hj, e⟩ := pk_andE (r >>> ((4 : Int32) &&& 31)) (m := 7) 3 (by decide)
  rw [e]
  exact xSd_8 ⟨j, hj⟩
/-- the line's value in round i, without wrapping in the ints -/
theorem xLine {a s : Int32} {i : Nat} (h0 : 0 ≤ a.toInt) (h1 : a.toInt < 64) (hs : -3 ≤ s.toInt ∧ s.toInt ≤ 4) (hi : i ≤ 40) : (a + s * nI i).toInt = a.toInt + s.toInt * (i : Int) := by
  have e : (nI i).toInt = (i : Int) := nI_toInt (by omega)
  have hb : -120 ≤ s.toInt * (i : Int) ∧ s.toInt * (i : Int) ≤ 160 := by
    rcases ha_8 hs with h | h | h | h | h | h | h | h <;> rw [h] <;> omega
  have h2 : (s * nI i).toInt = s.toInt * (i : Int) := by
    rw [fb_mulI (by rw [e]; omega) (by rw [e]; omega), e]
  rw [fb_addI (by rw [h2]; omega) (by rw [h2]; omega), h2]
theorem xEnd {a s : Int32} {T : Nat} (h0 : 0 ≤ a.toInt) (h1 : a.toInt < 64) (hs : -3 ≤ s.toInt ∧ s.toInt ≤ 4) (hT : 1 ≤ T) (hT2 : T ≤ 40) : (a + s * (nI T - 1)).toInt = a.toInt + s.toInt * ((T : Int) - 1) := by
  obtain ⟨t, rfl⟩ : ∃ t, T = t + 1 := ⟨T - 1, by omega⟩
  rw [nI_pred, xLine h0 h1 hs (by omega)]
  congr 2
  omega
/-- no wrapping around in T rounds -/
def xNW (bs : ha_F) (r : Int32) (T : Nat) : Prop := 0 ≤ (xSt bs r).toInt ∧ (xSt bs r).toInt < 64 ∧ 0 ≤ (xSt bs r).toInt + (xSd r).toInt * ((T : Int) - 1) ∧ (xSt bs r).toInt + (xSd r).toInt * ((T : Int) - 1) < 64
def xNC (bs : ha_F) (p q : Int32) (T : Nat) : Prop := ∀ i j : Nat, i < T → j < T → i ≠ j → (xSt bs p).toInt + (xSd p).toInt * (i : Int) ≠ (xSt bs q).toInt + (xSd q).toInt * (j : Int)
theorem xNW_of {bs : ha_F} {r : Int32} {T : Nat} (hT : 1 ≤ T) (hT2 : T ≤ 40) (h1 : ¬ xSt bs r < 0) (h2 : ¬ 64 ≤ xSt bs r) (h3 : ¬ xSt bs r + xSd r * (nI T - 1) < 0) (h4 : xSt bs r + xSd r * (nI T - 1) < 64) : xNW bs r T := by
  rw [fa_lt, show (0 : Int32).toInt = 0 from rfl] at h1 h3
  rw [fa_le, show (64 : Int32).toInt = 64 from rfl] at h2
  rw [fa_lt, show (64 : Int32).toInt = 64 from rfl] at h4
  have e := xEnd (a := xSt bs r) (s := xSd r) (T := T) (by omega) (by omega) (xSd_rng r) hT hT2
  rw [e] at h3 h4
  exact ⟨by omega, by omega, by omega, by omega⟩
theorem xN_line {bs : ha_F} {r : Int32} {T i : Nat} (h : xNW bs r T) (hi : i < T) (hT : T ≤ 40) : (xN bs r i : Int) = (xSt bs r).toInt + (xSd r).toInt * (i : Int) := by
  obtain ⟨h1, h2, h3, h4⟩ := h
  have e := xLine (a := xSt bs r) (s := xSd r) (i := i) h1 h2 (xSd_rng r) (by omega)
  have l1 := mc_lo (xSd_rng r) hi h1 h3
  have l2 := mc_hi (a := (xSt bs r).toInt) (hi := 63) (xSd_rng r) hi (by omega) (by omega)
  have k1 : ¬ xSt bs r + xSd r * nI i < 0 := by rw [fa_lt, e, show (0 : Int32).toInt = 0 from rfl]; omega
  obtain ⟨m, hm, em⟩ := nI_of k1
  have em2 : (m : Int) = (xSt bs r).toInt + (xSd r).toInt * (i : Int) := by rw [← e, em, nI_toInt hm]
  have hm64 : m < 64 := by omega
  unfold xN xCell
  rw [em, pk_andN (by omega) (m := 63) 6 (by decide), Nat.mod_eq_of_lt (by omega), nI_clamp hm]
  exact em2
/-- statement k's write in one round meets no use of another round -/
def SF (bs ops tg sr sc : ha_F) (n T : Nat) : Prop := ∀ k k2 i j, k < n → k2 < n → i < T → j < T → i ≠ j → ¬ ops k = 6 →
  (¬ ops k2 = 7 → xN bs (tg k) i ≠ xN bs (sr k2) j) ∧ (xTwo (ops k2) → xN bs (tg k) i ≠ xN bs (sc k2) j) ∧ (k ≠ k2 → ¬ ops k2 = 6 → xN bs (tg k) i ≠ xN bs (tg k2) j)
theorem xN_apart {bs : ha_F} {p q : Int32} {T i j : Nat} (hp : xNW bs p T) (hq : xNW bs q T) (h : xNC bs p q T) (hT : T ≤ 40) (hi : i < T) (hj : j < T) (hne : i ≠ j) : xN bs p i ≠ xN bs q j := by
  intro e
  have h1 := xN_line hp hi hT
  have h2 := xN_line hq hj hT
  rw [e] at h1
  exact h i j hi hj hne (h1.symm.trans h2)
theorem SF_of {bs ops tg sr sc ur uw : ha_F} {n T : Nat} (hT : T ≤ 40) (hL : LU ops tg sr sc n ur uw) (hw : ∀ p, p < uOff ops n → xNW bs (ur p) T) (hc : ∀ p, p < uOff ops n → ∀ q, q < uOff ops n → p ≠ q → ¬ uw p = 0 → xNC bs (ur p) (ur q) T) : SF bs ops tg sr sc n T := by
  intro k k2 i j hk hk2 hi hj hij h6
  obtain ⟨a1, -, -⟩ := hL k hk
  obtain ⟨b1, b2, b3⟩ := hL k2 hk2
  have lk := uOff_lt ops hk
  have lk2 := uOff_lt ops hk2
  have ak := uA_1 h6
  obtain ⟨e1, e2⟩ := a1 h6
  have e3 : ¬ uw (uOff ops k) = 0 := by rw [e2]; decide
  have key : ∀ q, q < uOff ops n → uOff ops k ≠ q → xN bs (tg k) i ≠ xN bs (ur q) j := by
    intro q hq hne
    rw [← e1]
    exact xN_apart (hw _ (by omega)) (hw q hq) (hc _ (by omega) q hq hne e3) hT hi hj hij
  have ord : k < k2 ∨ k = k2 ∨ k2 < k := by omega
  refine ⟨fun z => ?_, fun z => ?_, fun z y => ?_⟩
  · have bk := uB_1 z
    rw [← b2 z]
    refine key _ (by omega) ?_
    rcases ord with o | o | o
    · have := uOff_lt ops o; omega
    · subst o; omega
    · have := uOff_lt ops o; omega
  · have ck := uC_1 z
    have bk := uB_1 (xTwo_7 z)
    have ak2 := uA_1 (xTwo_6 z)
    rw [← b3 z]
    refine key _ (by omega) ?_
    rcases ord with o | o | o
    · have := uOff_lt ops o; omega
    · subst o; omega
    · have := uOff_lt ops o; omega
  · have ak2 := uA_1 y
    rw [← (b1 y).1]
    refine key _ (by omega) ?_
    rcases ord with o | o | o
    · have := uOff_lt ops o; omega
    · exact absurd o z
    · have := uOff_lt ops o; omega
/-! rounds that may be moved -/
section MV
variable {bs ops tg sr sc : ha_F}
theorem st1_sum {k i : Nat} {a : ha_F × Int32} (h : ops k = 6) : st1 bs ops tg sr sc k i a = (a.1, a.2 + a.1 (xN bs (sr k) i) * xW bs ops sc a.1 k i) := by unfold st1; rw [if_pos h]
theorem st1_put {k i : Nat} {a : ha_F × Int32} (h : ¬ ops k = 6) : st1 bs ops tg sr sc k i a = (upd a.1 (xN bs (tg k) i) (xVal bs ops sr sc a.1 k i), a.2) := by unfold st1; rw [if_neg h]
theorem xW_no {mem : ha_F} {k i : Nat} (h : ¬ xTwo (ops k)) : xW bs ops sc mem k i = sc k := by unfold xW; rw [if_neg h]
theorem xW_two {mem : ha_F} {k i : Nat} (h : xTwo (ops k)) : xW bs ops sc mem k i = mem (xN bs (sc k) i) := by unfold xW; rw [if_pos h]
theorem xW_upd {m : ha_F} {k i c : Nat} {v : Int32} (h : xTwo (ops k) → c ≠ xN bs (sc k) i) : xW bs ops sc (upd m c v) k i = xW bs ops sc m k i := by
  by_cases z : xTwo (ops k)
  · rw [xW_two z, xW_two z, pk_un (h z).symm]
  · rw [xW_no z, xW_no z]
theorem xRes_7 (u u2 w i : Int32) : xRes 7 u w i = xRes 7 u2 w i := rfl
theorem xVal_upd {m : ha_F} {k i c : Nat} {v : Int32} (hs : ¬ ops k = 7 → c ≠ xN bs (sr k) i) (hw : xTwo (ops k) → c ≠ xN bs (sc k) i) : xVal bs ops sr sc (upd m c v) k i = xVal bs ops sr sc m k i := by
  unfold xVal
  rw [xW_upd hw]
  by_cases z : ops k = 7
  · rw [z]
    exact xRes_7 _ _ _ _
  · rw [pk_un (hs z).symm]
theorem st1_comm {n T : Nat} (h : SF bs ops tg sr sc n T) {k k2 i j : Nat} (hk : k < n) (hk2 : k2 < n) (hkk : k ≠ k2) (hi : i < T) (hj : j < T) (hij : i ≠ j) (a : ha_F × Int32) : st1 bs ops tg sr sc k i (st1 bs ops tg sr sc k2 j a) = st1 bs ops tg sr sc k2 j (st1 bs ops tg sr sc k i a) := by
  by_cases z : ops k = 6
  · have n2 : ¬ xTwo (ops k) := fun q => xTwo_6 q z
    have n7 : ¬ ops k = 7 := by rw [z]; decide
    by_cases y : ops k2 = 6
    · rw [st1_sum y, st1_sum z, st1_sum z, st1_sum y]
      simp only
      rw [Int32.add_assoc, Int32.add_assoc, Int32.add_comm (a.1 (xN bs (sr k2) j) * xW bs ops sc a.1 k2 j)]
    · obtain ⟨q1, -, -⟩ := h k2 k j i hk2 hk hj hi (Ne.symm hij) y
      rw [st1_put y, st1_sum z, st1_sum z, st1_put y]
      simp only
      rw [pk_un (q1 n7).symm, xW_no n2, xW_no n2]
  · by_cases y : ops k2 = 6
    · have n2 : ¬ xTwo (ops k2) := fun q => xTwo_6 q y
      have n7 : ¬ ops k2 = 7 := by rw [y]; decide
      obtain ⟨q1, -, -⟩ := h k k2 i j hk hk2 hi hj hij z
      rw [st1_put z, st1_sum y, st1_sum y, st1_put z]
      simp only
      rw [pk_un (q1 n7).symm, xW_no n2, xW_no n2]
    · obtain ⟨q1, q2, q3⟩ := h k k2 i j hk hk2 hi hj hij z
      obtain ⟨r1, r2, -⟩ := h k2 k j i hk2 hk hj hi (Ne.symm hij) y
      rw [st1_put y, st1_put z, st1_put z, st1_put y]
      simp only
      rw [xVal_upd r1 r2, xVal_upd q1 q2, fa_upd_swap _ (q3 hkk y).symm]
/-- the stores of statement k in rounds i .. i + j - 1, with the loads before -/
def xS4 (bs ops tg sr sc : ha_F) (k i : Nat) (m : ha_F) : Nat → ha_F
  | 0 => m
  | j + 1 => upd (xS4 bs ops tg sr sc k i m j) (xN bs (tg k) (i + j)) (xVal bs ops sr sc m k (i + j))
def st4 (bs ops tg sr sc : ha_F) (k i : Nat) (a : ha_F × Int32) : ha_F × Int32 :=
  if ops k = 6 then (a.1, a.2 + (a.1 (xN bs (sr k) (i + 0)) + a.1 (xN bs (sr k) (i + 1)) + a.1 (xN bs (sr k) (i + 2)) + a.1 (xN bs (sr k) (i + 3))) * sc k) else (xS4 bs ops tg sr sc k i a.1 4, a.2)
theorem xS4_val {n T : Nat} (h : SF bs ops tg sr sc n T) {k i : Nat} (hk : k < n) (h6 : ¬ ops k = 6) (m : ha_F) {J : Nat} (hJ : i + J < T) : ∀ j, j ≤ J → xVal bs ops sr sc (xS4 bs ops tg sr sc k i m j) k (i + J) = xVal bs ops sr sc m k (i + J)
  | 0, _ => rfl
  | j + 1, hj => by
    obtain ⟨q1, q2, -⟩ := h k k (i + j) (i + J) hk hk (by omega) hJ (by omega) h6
    show xVal bs ops sr sc (upd _ _ _) k (i + J) = _
    rw [xVal_upd q1 q2]
    exact xS4_val h hk h6 m hJ j (by omega)
theorem st4_eq {n T : Nat} (h : SF bs ops tg sr sc n T) {k i : Nat} (hk : k < n) (hi : i + 4 ≤ T) (a : ha_F × Int32) : st4 bs ops tg sr sc k i a = st1 bs ops tg sr sc k (i + 3) (st1 bs ops tg sr sc k (i + 2) (st1 bs ops tg sr sc k (i + 1) (st1 bs ops tg sr sc k i a))) := by
  by_cases z : ops k = 6
  · have n2 : ¬ xTwo (ops k) := fun q => xTwo_6 q z
    unfold st4
    rw [if_pos z, st1_sum z, st1_sum z, st1_sum z, st1_sum z]
    simp only [xW_no n2, Nat.add_zero]
    rw [Int32.add_mul, Int32.add_mul, Int32.add_mul, ← Int32.add_assoc, ← Int32.add_assoc, ← Int32.add_assoc]
  · unfold st4
    rw [if_neg z]
    have key : ∀ j, j < 4 → st1 bs ops tg sr sc k (i + j) (xS4 bs ops tg sr sc k i a.1 j, a.2) = (xS4 bs ops tg sr sc k i a.1 (j + 1), a.2) := by
      intro j hj
      rw [st1_put z]
      simp only
      rw [xS4_val h hk z a.1 (J := j) (by omega) j (Nat.le_refl j)]
      rfl
    have k0 : st1 bs ops tg sr sc k i a = (xS4 bs ops tg sr sc k i a.1 1, a.2) := key 0 (by decide)
    rw [k0, key 1 (by decide), key 2 (by decide), key 3 (by decide)]
/-- a step that commutes with each of a row of steps commutes with the row -/
theorem ha_fold_comm {α : Type} (f : Nat → α → α) (g : α → α) : ∀ n, (∀ k, k < n → ∀ a, g (f k a) = f k (g a)) → ∀ a, g (ha_fold f n a) = ha_fold f n (g a)
  | 0, _, _ => rfl
  | n + 1, h, a => by
    show g (f n (ha_fold f n a)) = f n (ha_fold f n (g a))
    rw [h n (Nat.lt_succ_self n), ha_fold_comm f g n (fun k hk => h k (by omega))]
theorem ha_fold_s {α : Type} (f : Nat → α → α) (n : Nat) (a : α) : ha_fold f (n + 1) a = f n (ha_fold f n a) := rfl
theorem xRd_s (m i : Nat) (a : ha_F × Int32) : xRd bs ops tg sr sc (m + 1) i a = st1 bs ops tg sr sc m i (xRd bs ops tg sr sc m i a) := rfl
theorem xRd_comm {n T : Nat} (h : SF bs ops tg sr sc n T) {m : Nat} (hm : m < n) {x y : Nat} (hx : x < T) (hy : y < T) (hxy : x ≠ y) (b : ha_F × Int32) : st1 bs ops tg sr sc m x (xRd bs ops tg sr sc m y b) = xRd bs ops tg sr sc m y (st1 bs ops tg sr sc m x b) := by
  unfold xRd
  refine ha_fold_comm (fun k => st1 bs ops tg sr sc k y) (st1 bs ops tg sr sc m x) m ?_ b
  intro k hk a
  have hk2 : k < n := by omega
  have hkk : m ≠ k := by omega
  exact st1_comm h hm hk2 hkk hx hy hxy a
theorem rd4 {n T : Nat} (h : SF bs ops tg sr sc n T) {i : Nat} (hi : i + 4 ≤ T) (a : ha_F × Int32) (m : Nat) : m ≤ n → ha_fold (fun k => st4 bs ops tg sr sc k i) m a = xRd bs ops tg sr sc m (i + 3) (xRd bs ops tg sr sc m (i + 2) (xRd bs ops tg sr sc m (i + 1) (xRd bs ops tg sr sc m i a))) := by
  induction m with
  | zero => intro _; rfl
  | succ m ih =>
    intro hm
    have hmn : m < n := by omega
    have t0 : i < T := by omega
    have t1 : i + 1 < T := by omega
    have t2 : i + 2 < T := by omega
    have t3 : i + 3 < T := by omega
    rw [ha_fold_s, xRd_s, xRd_s, xRd_s, xRd_s, ih (by omega), st4_eq h hmn hi]
    rw [xRd_comm h hmn t0 t3 (by omega), xRd_comm h hmn t0 t2 (by omega), xRd_comm h hmn t0 t1 (by omega)]
    rw [xRd_comm h hmn t1 t3 (by omega), xRd_comm h hmn t1 t2 (by omega)]
    rw [xRd_comm h hmn t2 t3 (by omega)]
/-- a block of four rounds -/
theorem xRn_4 {n T : Nat} (h : SF bs ops tg sr sc n T) {i : Nat} (hi : i + 4 ≤ T) (a : ha_F × Int32) : ha_fold (fun k => st4 bs ops tg sr sc k i) n (xRn bs ops tg sr sc n i a) = xRn bs ops tg sr sc n (i + 4) a := rd4 h hi _ n (Nat.le_refl n)
theorem xRn_1 (n i : Nat) (a : ha_F × Int32) : ha_fold (fun k => st1 bs ops tg sr sc k i) n (xRn bs ops tg sr sc n i a) = xRn bs ops tg sr sc n (i + 1) a := rfl
end MV
end
section
/-! bits: the set of cells as a long, and how many ones it has; the first rows (wb_) pasted from kit/laws/BITS.to-paste -/
theorem wb_tb (n : Nat) : (lN n).toBitVec = BitVec.ofNat 64 n := rfl
theorem wb_inj {a b : Int64} (h : a.toBitVec = b.toBitVec) : a = b := Int64.toBitVec_inj.mp h
theorem wb_tn {n : Nat} (h : n < 2 ^ 64) : (lN n).toBitVec.toNat = n := by rw [wb_tb, BitVec.toNat_ofNat, Nat.mod_eq_of_lt h]
theorem wb_of (x : Int64) : ∃ n, n < 2 ^ 64 ∧ x = lN n := ⟨x.toBitVec.toNat, x.toBitVec.isLt, wb_inj (by rw [wb_tb]; simp)⟩
theorem wb_cu : ∀ k, k < 64 → ((nI k).toInt64.toUInt64 &&& Int64.toUInt64 63) = UInt64.ofNat k := by decide +kernel
theorem wb_mod (n : Nat) : lN n = lN (n % 2 ^ 64) := wb_inj (by rw [wb_tb, wb_tb]; apply BitVec.eq_of_toNat_eq; rw [BitVec.toNat_ofNat, BitVec.toNat_ofNat, Nat.mod_mod])
theorem wb_shr {n k : Nat} (hn : n < 2 ^ 64) (hk : k < 64) : ((lN n).toUInt64 >>> ((nI k).toInt64.toUInt64 &&& Int64.toUInt64 63)).toInt64 = lN (n / 2 ^ k) := by
  rw [wb_cu k hk]
  apply wb_inj
  apply BitVec.eq_of_toNat_eq
  show ((lN n).toUInt64 >>> UInt64.ofNat k).toNat = (BitVec.ofNat 64 _).toNat
  have h1 : (UInt64.ofNat k).toNat = k := by
    show (BitVec.ofNat 64 k).toNat = k
    rw [BitVec.toNat_ofNat, Nat.mod_eq_of_lt (by omega)]
  have h2 : (lN n).toUInt64.toNat = n := wb_tn hn
  rw [UInt64.toNat_shiftRight, h1, h2, Nat.mod_eq_of_lt hk, Nat.shiftRight_eq_div_pow, BitVec.toNat_ofNat, Nat.mod_eq_of_lt (Nat.lt_of_le_of_lt (Nat.div_le_self _ _) hn)]
theorem xCt_yes {p : Nat → Bool} {n : Nat} (h : p n = true) : xCt p (n + 1) = xCt p n + 1 := by
  show xCt p n + (if p n then 1 else 0) = _
  rw [if_pos h]
theorem xCt_no {p : Nat → Bool} {n : Nat} (h : p n = false) : xCt p (n + 1) = xCt p n := by
  show xCt p n + (if p n then 1 else 0) = _
  rw [if_neg (by rw [h]; decide)]
  rfl
theorem xCt_0 {p : Nat → Bool} : ∀ n, (∀ k, k < n → p k = false) → xCt p n = 0
  | 0, _ => rfl
  | n + 1, h => by rw [xCt_no (h n (Nat.lt_succ_self n))]; exact xCt_0 n (fun k hk => h k (by omega))
theorem xCt_pos {p : Nat → Bool} {k : Nat} (h : p k = true) : ∀ n, k < n → ¬ xCt p n = 0
  | 0, hk => absurd hk (Nat.not_lt_zero k)
  | n + 1, hk => by
    show ¬ xCt p n + (if p n then 1 else 0) = 0
    by_cases e : k = n
    · subst e
      rw [if_pos h]
      omega
    · have := xCt_pos h n (by omega)
      omega
theorem xCt_cong {p q : Nat → Bool} : ∀ n, (∀ k, k < n → p k = q k) → xCt p n = xCt q n
  | 0, _ => rfl
  | n + 1, h => by
    show xCt p n + (if p n then 1 else 0) = xCt q n + (if q n then 1 else 0)
    rw [h n (Nat.lt_succ_self n), xCt_cong n (fun k hk => h k (by omega))]
theorem xCt_split (p : Nat → Bool) (m : Nat) : ∀ n, xCt p (m + n) = xCt p m + xCt (fun k => p (m + k)) n
  | 0 => rfl
  | n + 1 => by
    show xCt p (m + n) + (if p (m + n) then 1 else 0) = xCt p m + (xCt (fun k => p (m + k)) n + (if p (m + n) then 1 else 0))
    rw [xCt_split p m n, Nat.add_assoc]
/-! the set's bits -/
theorem xOne_bit : ∀ j : Fin 64, ((1 : Int64) <<< ((nI j.val).toInt64 &&& 63)).toBitVec = BitVec.twoPow 64 j.val := by decide +kernel
theorem xSet_bit (bs : ha_F) (r : Int32) (c : Nat) : ∀ T, (xSet bs r T).toBitVec.getLsbD c = xVis bs r T c
  | 0 => by
    show (0 : Int64).toBitVec.getLsbD c = false
    exact BitVec.getLsbD_zero
  | T + 1 => by
    have h := xOne_bit ⟨xN bs r T, xN_lt bs r T⟩
    show (xSet bs r T ||| ((1 : Int64) <<< ((xCell bs r (nI T)).toInt64 &&& 63))).toBitVec.getLsbD c = (xVis bs r T c || decide (xN bs r T = c))
    rw [xCell_N, Int64.toBitVec_or, BitVec.getLsbD_or, xSet_bit bs r c T, h, BitVec.getLsbD_twoPow]
    rw [decide_eq_true (xN_lt bs r T), Bool.true_and]
theorem xSet_meet (bs : ha_F) (p q : Int32) (T : Nat) : xSet bs p T &&& xSet bs q T = 0 ↔ xCt (fun c => xVis bs p T c && xVis bs q T c) 64 = 0 := by
  have key : ∀ c, (xSet bs p T &&& xSet bs q T).toBitVec.getLsbD c = (xVis bs p T c && xVis bs q T c) := fun c => by rw [Int64.toBitVec_and, BitVec.getLsbD_and, xSet_bit, xSet_bit]
  constructor
  · intro h
    refine xCt_0 64 (fun c _ => ?_)
    rw [← key, h]
    exact BitVec.getLsbD_zero
  · intro h
    apply wb_inj
    apply BitVec.eq_of_getLsbD_eq
    intro c hc
    rw [key]
    cases z : (xVis bs p T c && xVis bs q T c)
    · exact BitVec.getLsbD_zero.symm
    · exact absurd h (xCt_pos (k := c) z 64 hc)
/-! how many ones, byte by byte -/
def ev : List Nat → Nat
  | [] => 0
  | r :: l => 256 * ev l + r
def mk8 (d : Nat) : Nat → Nat
  | 0 => 0
  | k + 1 => 256 * mk8 d k + d
theorem and256 (a c : Nat) {b d : Nat} (hb : b < 256) (hd : d < 256) : (256 * a + b) &&& (256 * c + d) = 256 * (a &&& c) + (b &&& d) := by
  have h1 : ((256 * a + b) &&& (256 * c + d)) / 2 ^ 8 = a &&& c := by
    rw [Nat.and_div_two_pow, show (256 * a + b) / 2 ^ 8 = a by omega, show (256 * c + d) / 2 ^ 8 = c by omega]
  have h2 : ((256 * a + b) &&& (256 * c + d)) % 2 ^ 8 = b &&& d := by
    rw [Nat.and_mod_two_pow, show (256 * a + b) % 2 ^ 8 = b by omega, show (256 * c + d) % 2 ^ 8 = d by omega]
  omega
def b1 (r : Nat) : Nat := r - (r / 2 &&& 85)
def b2 (r : Nat) : Nat := (r &&& 51) + (r / 4 &&& 51)
def b3 (r : Nat) : Nat := (r + r / 16) &&& 15
def S1 (k n : Nat) : Nat := n - (n / 2 &&& mk8 85 k)
def S2 (k n : Nat) : Nat := (n &&& mk8 51 k) + (n / 4 &&& mk8 51 k)
def S3 (k n : Nat) : Nat := (n + n / 16) &&& mk8 15 k
theorem k1 : ∀ e : Fin 2, ∀ r : Fin 256, (128 * e.val + r.val / 2) &&& 85 = r.val / 2 &&& 85 := by decide +kernel
theorem k2 : ∀ e : Fin 4, ∀ r : Fin 256, (64 * e.val + r.val / 4) &&& 51 = r.val / 4 &&& 51 := by decide +kernel
theorem k3 : ∀ r : Fin 256, b3 (b2 (b1 r.val)) = xCt (fun c => r.val.testBit c) 8 ∧ b1 r.val < 256 ∧ b2 (b1 r.val) < 256 ∧ b2 (b1 r.val) % 16 ≤ 4 ∧ b2 (b1 r.val) / 16 ≤ 4 ∧ b3 (b2 (b1 r.val)) ≤ 8 := by decide +kernel
theorem S1_ev : ∀ l : List Nat, (∀ r ∈ l, r < 256) → S1 l.length (ev l) = ev (l.map b1)
  | [], _ => rfl
  | r :: l, h => by
    have hr : r < 256 := h r List.mem_cons_self
    have ih := S1_ev l (fun x hx => h x (List.mem_cons_of_mem _ hx))
    show (256 * ev l + r) - ((256 * ev l + r) / 2 &&& (256 * mk8 85 l.length + 85)) = 256 * ev (l.map b1) + b1 r
    have e : (256 * ev l + r) / 2 = 256 * (ev l / 2) + (128 * (ev l % 2) + r / 2) := by omega
    rw [e, and256 _ _ (by omega) (by decide), k1 ⟨ev l % 2, by omega⟩ ⟨r, hr⟩, ← ih]
    have l1 : (ev l / 2 &&& mk8 85 l.length) ≤ ev l / 2 := Nat.and_le_left
    have l2 : (r / 2 &&& 85) ≤ r / 2 := Nat.and_le_left
    unfold S1 b1
    dsimp only
    omega
theorem S2_ev : ∀ l : List Nat, (∀ r ∈ l, r < 256) → S2 l.length (ev l) = ev (l.map b2)
  | [], _ => rfl
  | r :: l, h => by
    have hr : r < 256 := h r List.mem_cons_self
    have ih := S2_ev l (fun x hx => h x (List.mem_cons_of_mem _ hx))
    show ((256 * ev l + r) &&& (256 * mk8 51 l.length + 51)) + ((256 * ev l + r) / 4 &&& (256 * mk8 51 l.length + 51)) = 256 * ev (l.map b2) + b2 r
    have e : (256 * ev l + r) / 4 = 256 * (ev l / 4) + (64 * (ev l % 4) + r / 4) := by omega
    rw [e, and256 (ev l) _ hr (by decide), and256 (ev l / 4) _ (by omega) (by decide), k2 ⟨ev l % 4, by omega⟩ ⟨r, hr⟩, ← ih]
    unfold S2 b2
    dsimp only
    omega
theorem ev_lo : ∀ l : List Nat, (∀ r ∈ l, r % 16 ≤ 4) → ev l % 16 ≤ 4
  | [], _ => Nat.zero_le _
  | r :: l, h => by
    have hr := h r List.mem_cons_self
    show (256 * ev l + r) % 16 ≤ 4
    omega
theorem S3_ev : ∀ l : List Nat, (∀ r ∈ l, r < 256 ∧ r % 16 ≤ 4 ∧ r / 16 ≤ 4) → S3 l.length (ev l) = ev (l.map b3)
  | [], _ => rfl
  | r :: l, h => by
    obtain ⟨hr, h4, h5⟩ := h r List.mem_cons_self
    have ih := S3_ev l (fun x hx => h x (List.mem_cons_of_mem _ hx))
    have hlo := ev_lo l (fun x hx => (h x (List.mem_cons_of_mem _ hx)).2.1)
    show ((256 * ev l + r) + (256 * ev l + r) / 16) &&& (256 * mk8 15 l.length + 15) = 256 * ev (l.map b3) + b3 r
    have e : (256 * ev l + r) + (256 * ev l + r) / 16 = 256 * (ev l + ev l / 16) + (r + r / 16 + 16 * (ev l % 16)) := by omega
    have e2 : (r + r / 16 + 16 * (ev l % 16)) &&& 15 = (r + r / 16) &&& 15 := by
      have q1 := Nat.and_two_pow_sub_one_eq_mod (r + r / 16 + 16 * (ev l % 16)) 4
      have q2 := Nat.and_two_pow_sub_one_eq_mod (r + r / 16) 4
      rw [show (2 : Nat) ^ 4 - 1 = 15 from rfl] at q1 q2
      rw [q1, q2]
      omega
    rw [e, and256 _ _ (by omega) (by decide), e2, ← ih]
    rfl
theorem ev_bits (l : List Nat) (r n : Nat) (hr : r < 256) : xCt (fun c => (256 * ev l + r).testBit c) (8 + n) = xCt (fun c => r.testBit c) 8 + xCt (fun c => (ev l).testBit c) n := by
  rw [xCt_split]
  congr 1
  · apply xCt_cong
    intro c hc
    rw [Nat.testBit_two_pow_mul_add (i := 8) (ev l) hr c, if_pos hc]
  · apply xCt_cong
    intro c _
    rw [Nat.testBit_two_pow_mul_add (i := 8) (ev l) hr (8 + c), if_neg (by omega), Nat.add_sub_cancel_left]
theorem ev_count : ∀ l : List Nat, (∀ r ∈ l, r < 256) → xCt (fun c => (ev l).testBit c) (8 * l.length) = ((l.map b1).map b2 |>.map b3).sum
  | [], _ => rfl
  | r :: l, h => by
    have hr : r < 256 := h r List.mem_cons_self
    have ih := ev_count l (fun x hx => h x (List.mem_cons_of_mem _ hx))
    show xCt (fun c => (256 * ev l + r).testBit c) (8 * (l.length + 1)) = b3 (b2 (b1 r)) + ((l.map b1).map b2 |>.map b3).sum
    rw [show 8 * (l.length + 1) = 8 + 8 * l.length by omega, ev_bits l r _ hr, ih, (k3 ⟨r, hr⟩).1]
/-- eight bytes -/
theorem ev_8 {n : Nat} (h : n < 2 ^ 64) : ∃ r0 r1 r2 r3 r4 r5 r6 r7 : Nat, n = ev [r0, r1, r2, r3, r4, r5, r6, r7] ∧ ∀ r ∈ [r0, r1, r2, r3, r4, r5, r6, r7], r < 256 := by
  refine ⟨n % 256, n / 256 % 256, n / 65536 % 256, n / 16777216 % 256, n / 4294967296 % 256, n / 1099511627776 % 256, n / 281474976710656 % 256, n / 72057594037927936 % 256, ?_, ?_⟩
  · simp only [ev]
    omega
  · intro r hr
    simp only [List.mem_cons, List.not_mem_nil, or_false] at hr
    rcases hr with rfl | rfl | rfl | rfl | rfl | rfl | rfl | rfl <;> exact Nat.mod_lt _ (by decide)
theorem ones_dig {x0 x1 x2 x3 x4 x5 x6 x7 : Nat} (c0 : x0 ≤ 8) (c1 : x1 ≤ 8) (c2 : x2 ≤ 8) (c3 : x3 ≤ 8) (c4 : x4 ≤ 8) (c5 : x5 ≤ 8) (c6 : x6 ≤ 8) (c7 : x7 ≤ 8) : (256 * (256 * (256 * (256 * (256 * (256 * (256 * (256 * 0 + x7) + x6) + x5) + x4) + x3) + x2) + x1) + x0) * 72340172838076673 % 2 ^ 64 / 2 ^ 56 = x0 + (x1 + (x2 + (x3 + (x4 + (x5 + (x6 + (x7 + 0))))))) := by
  have eP : (256 * (256 * (256 * (256 * (256 * (256 * (256 * (256 * 0 + x7) + x6) + x5) + x4) + x3) + x2) + x1) + x0) * 72340172838076673 = 2 ^ 64 * (1 * (x1 + x2 + x3 + x4 + x5 + x6 + x7) + 256 * (x2 + x3 + x4 + x5 + x6 + x7) + 65536 * (x3 + x4 + x5 + x6 + x7) + 16777216 * (x4 + x5 + x6 + x7) + 4294967296 * (x5 + x6 + x7) + 1099511627776 * (x6 + x7) + 281474976710656 * (x7)) + (72057594037927936 * (x0 + x1 + x2 + x3 + x4 + x5 + x6 + x7) + (1 * (x0) + 256 * (x0 + x1) + 65536 * (x0 + x1 + x2) + 16777216 * (x0 + x1 + x2 + x3) + 4294967296 * (x0 + x1 + x2 + x3 + x4) + 1099511627776 * (x0 + x1 + x2 + x3 + x4 + x5) + 281474976710656 * (x0 + x1 + x2 + x3 + x4 + x5 + x6))) := by omega
  have hlo : 1 * (x0) + 256 * (x0 + x1) + 65536 * (x0 + x1 + x2) + 16777216 * (x0 + x1 + x2 + x3) + 4294967296 * (x0 + x1 + x2 + x3 + x4) + 1099511627776 * (x0 + x1 + x2 + x3 + x4 + x5) + 281474976710656 * (x0 + x1 + x2 + x3 + x4 + x5 + x6) < 72057594037927936 := by omega
  have hs : (x0 + x1 + x2 + x3 + x4 + x5 + x6 + x7) ≤ 64 := by omega
  rw [eP, Nat.mul_add_mod]
  generalize 1 * (x0) + 256 * (x0 + x1) + 65536 * (x0 + x1 + x2) + 16777216 * (x0 + x1 + x2 + x3) + 4294967296 * (x0 + x1 + x2 + x3 + x4) + 1099511627776 * (x0 + x1 + x2 + x3 + x4 + x5) + 281474976710656 * (x0 + x1 + x2 + x3 + x4 + x5 + x6) = lo at *
  have e2 : (72057594037927936 * (x0 + x1 + x2 + x3 + x4 + x5 + x6 + x7) + lo) % 2 ^ 64 = 72057594037927936 * (x0 + x1 + x2 + x3 + x4 + x5 + x6 + x7) + lo := Nat.mod_eq_of_lt (by omega)
  rw [e2]
  omega
theorem ones_nat {n : Nat} (h : n < 2 ^ 64) : S3 8 (S2 8 (S1 8 n)) * 72340172838076673 % 2 ^ 64 / 2 ^ 56 = xCt (fun c => n.testBit c) 64 := by
  obtain ⟨r0, r1, r2, r3, r4, r5, r6, r7, e, hr⟩ := ev_8 h
  have e1 := S1_ev [r0, r1, r2, r3, r4, r5, r6, r7] hr
  have e2 := S2_ev ([r0, r1, r2, r3, r4, r5, r6, r7].map b1) (fun r hx => by
    obtain ⟨z, hz, rfl⟩ := List.mem_map.mp hx
    exact (k3 ⟨z, hr z hz⟩).2.1)
  have e3 := S3_ev (([r0, r1, r2, r3, r4, r5, r6, r7].map b1).map b2) (fun r hx => by
    obtain ⟨y, hy, rfl⟩ := List.mem_map.mp hx
    obtain ⟨z, hz, rfl⟩ := List.mem_map.mp hy
    have q := k3 ⟨z, hr z hz⟩
    exact ⟨q.2.2.1, q.2.2.2.1, q.2.2.2.2.1⟩)
  have e4 := ev_count [r0, r1, r2, r3, r4, r5, r6, r7] hr
  have e1 : S1 8 (ev [r0, r1, r2, r3, r4, r5, r6, r7]) = ev ([r0, r1, r2, r3, r4, r5, r6, r7].map b1) := e1
  have e2 : S2 8 (ev ([r0, r1, r2, r3, r4, r5, r6, r7].map b1)) = ev (([r0, r1, r2, r3, r4, r5, r6, r7].map b1).map b2) := e2
  have e3 : S3 8 (ev (([r0, r1, r2, r3, r4, r5, r6, r7].map b1).map b2)) = ev ((([r0, r1, r2, r3, r4, r5, r6, r7].map b1).map b2).map b3) := e3
  have e4 : xCt (fun c => (ev [r0, r1, r2, r3, r4, r5, r6, r7]).testBit c) 64 = ((([r0, r1, r2, r3, r4, r5, r6, r7].map b1).map b2).map b3).sum := e4
  rw [e, e4, e1, e2, e3]
  have h8 : ∀ r, r ∈ [r0, r1, r2, r3, r4, r5, r6, r7] → b3 (b2 (b1 r)) ≤ 8 := fun r hx => (k3 ⟨r, hr r hx⟩).2.2.2.2.2
  have c0 := h8 r0 (by simp)
  have c1 := h8 r1 (by simp)
  have c2 := h8 r2 (by simp)
  have c3 := h8 r3 (by simp)
  have c4 := h8 r4 (by simp)
  have c5 := h8 r5 (by simp)
  have c6 := h8 r6 (by simp)
  have c7 := h8 r7 (by simp)
  simp only [List.map_cons, List.map_nil, List.sum_cons, List.sum_nil, ev]
  generalize b3 (b2 (b1 r0)) = x0 at *
  generalize b3 (b2 (b1 r1)) = x1 at *
  generalize b3 (b2 (b1 r2)) = x2 at *
  generalize b3 (b2 (b1 r3)) = x3 at *
  generalize b3 (b2 (b1 r4)) = x4 at *
  generalize b3 (b2 (b1 r5)) = x5 at *
  generalize b3 (b2 (b1 r6)) = x6 at *
  generalize b3 (b2 (b1 r7)) = x7 at *
  clear e e1 e2 e3 e4 h8 hr h
  exact ones_dig c0 c1 c2 c3 c4 c5 c6 c7
theorem xOnes_ct (x : Int64) : xOnes x = nI (xCt (fun c => x.toBitVec.getLsbD c) 64) := by
  obtain ⟨n, hn, rfl⟩ := wb_of x
  have hb : xCt (fun c => (lN n).toBitVec.getLsbD c) 64 = xCt (fun c => n.testBit c) 64 := by
    apply xCt_cong
    intro c _
    rw [← BitVec.testBit_toNat, wb_tn hn]
  rw [hb, ← ones_nat hn]
  have a1 : (n / 2 &&& mk8 85 8) ≤ n := Nat.le_trans Nat.and_le_left (by omega)
  have y : lN n - (((lN n).toUInt64 >>> ((1 : Int32).toInt64.toUInt64 &&& Int64.toUInt64 63)).toInt64 &&& 6148914691236517205) = lN (S1 8 n) := by
    have q := wb_shr (k := 1) hn (by decide)
    rw [show ((1 : Int32).toInt64.toUInt64 &&& Int64.toUInt64 63) = ((nI 1).toInt64.toUInt64 &&& Int64.toUInt64 63) from rfl, q, show (6148914691236517205 : Int64) = lN (mk8 85 8) from rfl, fb_andL, lN_sub (by simpa using a1)]
    rfl
  have hy : S1 8 n < 2 ^ 64 := Nat.lt_of_le_of_lt (Nat.sub_le _ _) hn
  have m3 : ∀ a : Nat, (a &&& mk8 51 8) ≤ mk8 51 8 := fun a => Nat.and_le_right
  have v3 : mk8 51 8 = 3689348814741910323 := by decide
  have z : (lN (S1 8 n) &&& 3689348814741910323) + (((lN (S1 8 n)).toUInt64 >>> ((2 : Int32).toInt64.toUInt64 &&& Int64.toUInt64 63)).toInt64 &&& 3689348814741910323) = lN (S2 8 (S1 8 n)) := by
    have q := wb_shr (k := 2) hy (by decide)
    rw [show ((2 : Int32).toInt64.toUInt64 &&& Int64.toUInt64 63) = ((nI 2).toInt64.toUInt64 &&& Int64.toUInt64 63) from rfl, q, show (3689348814741910323 : Int64) = lN (mk8 51 8) from rfl, fb_andL, fb_andL, lN_add]
    rfl
  have hz : S2 8 (S1 8 n) < 2 ^ 63 := by
    have q1 := m3 (S1 8 n)
    have q2 := m3 (S1 8 n / 4)
    unfold S2
    omega
  have w : (lN (S2 8 (S1 8 n)) + ((lN (S2 8 (S1 8 n))).toUInt64 >>> ((4 : Int32).toInt64.toUInt64 &&& Int64.toUInt64 63)).toInt64) &&& 1085102592571150095 = lN (S3 8 (S2 8 (S1 8 n))) := by
    have q := wb_shr (n := S2 8 (S1 8 n)) (k := 4) (by omega) (by decide)
    rw [show ((4 : Int32).toInt64.toUInt64 &&& Int64.toUInt64 63) = ((nI 4).toInt64.toUInt64 &&& Int64.toUInt64 63) from rfl, q, show (1085102592571150095 : Int64) = lN (mk8 15 8) from rfl, lN_add, fb_andL]
    rfl
  unfold xOnes
  dsimp only
  rw [y, z, w, show (72340172838076673 : Int64) = lN 72340172838076673 from rfl, lN_mul, wb_mod]
  have q := wb_shr (n := S3 8 (S2 8 (S1 8 n)) * 72340172838076673 % 2 ^ 64) (k := 56) (Nat.mod_lt _ (by decide)) (by decide)
  rw [show ((56 : Int32).toInt64.toUInt64 &&& Int64.toUInt64 63) = ((nI 56).toInt64.toUInt64 &&& Int64.toUInt64 63) from rfl, q, lN_i]
theorem xOnes_set (bs : ha_F) (r : Int32) (T : Nat) : xOnes (xSet bs r T) = nI (xCt (xVis bs r T) 64) := by
  rw [xOnes_ct]
  congr 1
  exact xCt_cong 64 (fun c _ => xSet_bit bs r c T)
end
section
set_option maxHeartbeats 4000000 in
set_option maxRecDepth 100000 in
/-- isRef: a reference by its number -/
theorem metX0_isRef (l : Launch) (p0 : Int32) : Met l yX0_isRef (ws_ yX0_isRef cX0_isRef 1 (some .boolean)) ({ frames := 0, cells := 0, slots := 0, locals := 0 }) (ha_N [.int p0]) (vp_Si (fun r => ¬ r = 0 ↔ xRef p0)) 0 0 (fun _ => False) := by
  refine Met.ofW (cc := cX0_isRef) (maxL := 1) (ret := (some .boolean)) (by decide) rfl ?_
  intro p e s m args below meth c s₁ B hml hv
  obtain ⟨rfl, -⟩ := hv
  have hx := B.exec
  have hb := B.bytes
  have hr := B.returns
  have hts := atoms_spec (ws := ws_ yX0_isRef cX0_isRef 1 (some .boolean)) B.pre
  have hts : ∀ w ∈ lw_all, w.before _ s = true := fun w h => hts w (List.mem_cons_of_mem _ h)
  have hown : s.vm.findClass RX0 = some m.cls := findClass_of_methodNamed B.named
  have hlocks := B.notSynchronized
  have hl := lv_entry ([.int p0]) (n := 1) (Nat.le_of_ble_eq_true rfl)
  rw [lg_entry_eq]
  generalize (lg_sl ([.int p0]) ++ List.replicate (1 - (lg_sl ([.int p0])).length) Slot.unset).toArray = ls at hl ⊢
  have hl : lv_has ls 1 [(0, .int p0)] := hl
  refine lv_iload_n hx hb dX0_isRef_0 rfl (lv_at hl 0 rfl) ?_
  refine lv_if_lt (tgt := 26) hx hb dX0_isRef_1 (by decide) (fun c_1 => ?_) (fun c_1 => ?_)
  · refine lv_iconst (v := 0) hx hb dX0_isRef_26 (by decide) ?_
    exact W.zret (v := 0) hx hb hr rfl (fun t ht hW => ⟨0, rfl, ⟨fun h => absurd rfl h, fun h => absurd c_1 h.1⟩, ht⟩) (fun _ h => absurd h List.not_mem_nil) dX0_isRef_27
  · refine lv_iload_n hx hb dX0_isRef_4 rfl (lv_at hl 0 rfl) ?_
    refine lv_sipush (v := 512) hx hb dX0_isRef_5 (by decide) ?_
    refine lv_icmp_ge (tgt := 26) hx hb dX0_isRef_8 (by decide) (fun c_2 => ?_) (fun c_2 => ?_)
    · refine lv_iconst (v := 0) hx hb dX0_isRef_26 (by decide) ?_
      exact W.zret (v := 0) hx hb hr rfl (fun t ht hW => ⟨0, rfl, ⟨fun h => absurd rfl h, fun h => absurd c_2 h.2.1⟩, ht⟩) (fun _ h => absurd h List.not_mem_nil) dX0_isRef_27
    · refine lv_iload_n hx hb dX0_isRef_11 rfl (lv_at hl 0 rfl) ?_
      refine lv_iconst (v := 4) hx hb dX0_isRef_12 (by decide) ?_
      refine lv_ishr hx hb dX0_isRef_13 ?_
      refine lv_bipush (v := 7) hx hb dX0_isRef_14 (by decide) ?_
      refine lv_iand hx hb dX0_isRef_16 ?_
      refine lv_bipush (v := 7) hx hb dX0_isRef_17 (by decide) ?_
      refine lv_icmp_eq (tgt := 26) hx hb dX0_isRef_19 (by decide) (fun c_3 => ?_) (fun c_3 => ?_)
      · refine lv_iconst (v := 0) hx hb dX0_isRef_26 (by decide) ?_
        exact W.zret (v := 0) hx hb hr rfl (fun t ht hW => ⟨0, rfl, ⟨fun h => absurd rfl h, fun h => absurd c_3 h.2.2⟩, ht⟩) (fun _ h => absurd h List.not_mem_nil) dX0_isRef_27
      · refine lv_iconst (v := 1) hx hb dX0_isRef_22 (by decide) ?_
        refine lv_goto (tgt := 27) hx hb dX0_isRef_23 (by decide) ?_
        exact W.zret (v := 1) hx hb hr rfl (fun t ht hW => ⟨1, rfl, ⟨fun _ => ⟨c_1, c_2, c_3⟩, fun _ => by decide⟩, ht⟩) (fun _ h => absurd h List.not_mem_nil) dX0_isRef_27
set_option maxHeartbeats 4000000 in
set_option maxRecDepth 100000 in
/-- takesTwo -/
theorem metX0_takesTwo (l : Launch) (p0 : Int32) : Met l yX0_takesTwo (ws_ yX0_takesTwo cX0_takesTwo 1 (some .boolean)) ({ frames := 0, cells := 0, slots := 0, locals := 0 }) (ha_N [.int p0]) (vp_Si (fun r => ¬ r = 0 ↔ xTwo p0)) 0 0 (fun _ => False) := by
  refine Met.ofW (cc := cX0_takesTwo) (maxL := 1) (ret := (some .boolean)) (by decide) rfl ?_
  intro p e s m args below meth c s₁ B hml hv
  obtain ⟨rfl, -⟩ := hv
  have hx := B.exec
  have hb := B.bytes
  have hr := B.returns
  have hts := atoms_spec (ws := ws_ yX0_takesTwo cX0_takesTwo 1 (some .boolean)) B.pre
  have hts : ∀ w ∈ lw_all, w.before _ s = true := fun w h => hts w (List.mem_cons_of_mem _ h)
  have hown : s.vm.findClass RX0 = some m.cls := findClass_of_methodNamed B.named
  have hlocks := B.notSynchronized
  have hl := lv_entry ([.int p0]) (n := 1) (Nat.le_of_ble_eq_true rfl)
  rw [lg_entry_eq]
  generalize (lg_sl ([.int p0]) ++ List.replicate (1 - (lg_sl ([.int p0])).length) Slot.unset).toArray = ls at hl ⊢
  have hl : lv_has ls 1 [(0, .int p0)] := hl
  refine lv_iload_n hx hb dX0_takesTwo_0 rfl (lv_at hl 0 rfl) ?_
  refine lv_iconst (v := 1) hx hb dX0_takesTwo_1 (by decide) ?_
  refine lv_icmp_lt (tgt := 14) hx hb dX0_takesTwo_2 (by decide) (fun c_1 => ?_) (fun c_1 => ?_)
  · refine lv_iconst (v := 0) hx hb dX0_takesTwo_14 (by decide) ?_
    exact W.zret (v := 0) hx hb hr rfl (fun t ht hW => ⟨0, rfl, ⟨fun h => absurd rfl h, fun h => absurd c_1 h.1⟩, ht⟩) (fun _ h => absurd h List.not_mem_nil) dX0_takesTwo_15
  · refine lv_iload_n hx hb dX0_takesTwo_5 rfl (lv_at hl 0 rfl) ?_
    refine lv_iconst (v := 4) hx hb dX0_takesTwo_6 (by decide) ?_
    refine lv_icmp_gt (tgt := 14) hx hb dX0_takesTwo_7 (by decide) (fun c_2 => ?_) (fun c_2 => ?_)
    · refine lv_iconst (v := 0) hx hb dX0_takesTwo_14 (by decide) ?_
      exact W.zret (v := 0) hx hb hr rfl (fun t ht hW => ⟨0, rfl, ⟨fun h => absurd rfl h, fun h => absurd c_2 h.2⟩, ht⟩) (fun _ h => absurd h List.not_mem_nil) dX0_takesTwo_15
    · refine lv_iconst (v := 1) hx hb dX0_takesTwo_10 (by decide) ?_
      refine lv_goto (tgt := 15) hx hb dX0_takesTwo_11 (by decide) ?_
      exact W.zret (v := 1) hx hb hr rfl (fun t ht hW => ⟨1, rfl, ⟨fun _ => ⟨c_1, c_2⟩, fun _ => by decide⟩, ht⟩) (fun _ h => absurd h List.not_mem_nil) dX0_takesTwo_15
set_option maxHeartbeats 4000000 in
set_option maxRecDepth 100000 in
/-- strideOf -/
theorem metX0_strideOf (l : Launch) (p0 : Int32) : Met l yX0_strideOf (ws_ yX0_strideOf cX0_strideOf 1 (some .int)) ({ frames := 0, cells := 0, slots := 0, locals := 0 }) (ha_N [.int p0]) (vp_Si (fun r => r = xSd p0)) 0 0 (fun _ => False) := by
  refine Met.ofW (cc := cX0_strideOf) (maxL := 1) (ret := (some .int)) (by decide) rfl ?_
  intro p e s m args below meth c s₁ B hml hv
  obtain ⟨rfl, -⟩ := hv
  have hx := B.exec
  have hb := B.bytes
  have hr := B.returns
  have hts := atoms_spec (ws := ws_ yX0_strideOf cX0_strideOf 1 (some .int)) B.pre
  have hts : ∀ w ∈ lw_all, w.before _ s = true := fun w h => hts w (List.mem_cons_of_mem _ h)
  have hown : s.vm.findClass RX0 = some m.cls := findClass_of_methodNamed B.named
  have hlocks := B.notSynchronized
  have hl := lv_entry ([.int p0]) (n := 1) (Nat.le_of_ble_eq_true rfl)
  rw [lg_entry_eq]
  generalize (lg_sl ([.int p0]) ++ List.replicate (1 - (lg_sl ([.int p0])).length) Slot.unset).toArray = ls at hl ⊢
  have hl : lv_has ls 1 [(0, .int p0)] := hl
  refine lv_iload_n hx hb dX0_strideOf_0 rfl (lv_at hl 0 rfl) ?_
  refine lv_iconst (v := 4) hx hb dX0_strideOf_1 (by decide) ?_
  refine lv_ishr hx hb dX0_strideOf_2 ?_
  refine lv_bipush (v := 7) hx hb dX0_strideOf_3 (by decide) ?_
  refine lv_iand hx hb dX0_strideOf_5 ?_
  refine lv_iconst (v := 3) hx hb dX0_strideOf_6 (by decide) ?_
  refine lv_isub hx hb dX0_strideOf_7 ?_
  exact W.iret (v := (((p0 >>> (4 &&& 31)) &&& 7) - 3)) hx hb hr (fun t ht hW => ⟨(((p0 >>> (4 &&& 31)) &&& 7) - 3), rfl, rfl, ht⟩) (fun _ h => absurd h List.not_mem_nil) dX0_strideOf_8
set_option maxHeartbeats 4000000 in
set_option maxRecDepth 100000 in
/-- result of one operation -/
theorem metX0_result (l : Launch) (p0 p1 p2 p3 : Int32) : Met l yX0_result (ws_ yX0_result cX0_result 4 (some .int)) ({ frames := 0, cells := 0, slots := 0, locals := 0 }) (ha_N [.int p0, .int p1, .int p2, .int p3]) (vp_Si (fun r => r = xRes p0 p1 p2 p3)) 0 0 (fun _ => False) := by
  refine Met.ofW (cc := cX0_result) (maxL := 4) (ret := (some .int)) (by decide) rfl ?_
  intro p e s m args below meth c s₁ B hml hv
  obtain ⟨rfl, -⟩ := hv
  have hx := B.exec
  have hb := B.bytes
  have hr := B.returns
  have hts := atoms_spec (ws := ws_ yX0_result cX0_result 4 (some .int)) B.pre
  have hts : ∀ w ∈ lw_all, w.before _ s = true := fun w h => hts w (List.mem_cons_of_mem _ h)
  have hown : s.vm.findClass RX0 = some m.cls := findClass_of_methodNamed B.named
  have hlocks := B.notSynchronized
  have hl := lv_entry ([.int p0, .int p1, .int p2, .int p3]) (n := 4) (Nat.le_of_ble_eq_true rfl)
  rw [lg_entry_eq]
  generalize (lg_sl ([.int p0, .int p1, .int p2, .int p3]) ++ List.replicate (4 - (lg_sl ([.int p0, .int p1, .int p2, .int p3])).length) Slot.unset).toArray = ls at hl ⊢
  have hl : lv_has ls 4 [(0, .int p0), (1, .int p1), (2, .int p2), (3, .int p3)] := hl
  refine lv_iload_n hx hb dX0_result_0 rfl (lv_at hl 0 rfl) ?_
  refine lv_if_ne (tgt := 6) hx hb dX0_result_1 (by decide) (fun c_1 => ?_) (fun c_1 => ?_)
  · refine lv_iload_n hx hb dX0_result_6 rfl (lv_at hl 0 rfl) ?_
    refine lv_iconst (v := 1) hx hb dX0_result_7 (by decide) ?_
    refine lv_icmp_eq (tgt := 16) hx hb dX0_result_8 (by decide) (fun c_2 => ?_) (fun c_2 => ?_)
    · refine lv_iload_n hx hb dX0_result_16 rfl (lv_at hl 1 rfl) ?_
      refine lv_iload_n hx hb dX0_result_17 rfl (lv_at hl 2 rfl) ?_
      refine lv_iadd hx hb dX0_result_18 ?_
      exact W.iret (v := (p1 + p2)) hx hb hr (fun t ht hW => ⟨(p1 + p2), rfl, (xRes_b c_1 (Or.inl c_2)).symm, ht⟩) (fun _ h => absurd h List.not_mem_nil) dX0_result_19
    · refine lv_iload_n hx hb dX0_result_11 rfl (lv_at hl 0 rfl) ?_
      refine lv_iconst (v := 5) hx hb dX0_result_12 (by decide) ?_
      refine lv_icmp_ne (tgt := 20) hx hb dX0_result_13 (by decide) (fun c_3 => ?_) (fun c_3 => ?_)
      · refine lv_iload_n hx hb dX0_result_20 rfl (lv_at hl 0 rfl) ?_
        refine lv_iconst (v := 2) hx hb dX0_result_21 (by decide) ?_
        refine lv_icmp_ne (tgt := 29) hx hb dX0_result_22 (by decide) (fun c_4 => ?_) (fun c_4 => ?_)
        · refine lv_iload_n hx hb dX0_result_29 rfl (lv_at hl 0 rfl) ?_
          refine lv_iconst (v := 3) hx hb dX0_result_30 (by decide) ?_
          refine lv_icmp_ne (tgt := 38) hx hb dX0_result_31 (by decide) (fun c_5 => ?_) (fun c_5 => ?_)
          · refine lv_iload_n hx hb dX0_result_38 rfl (lv_at hl 0 rfl) ?_
            refine lv_iconst (v := 4) hx hb dX0_result_39 (by decide) ?_
            refine lv_icmp_ne (tgt := 49) hx hb dX0_result_40 (by decide) (fun c_6 => ?_) (fun c_6 => ?_)
            · refine lv_iload_n hx hb dX0_result_49 rfl (lv_at hl 2 rfl) ?_
              refine lv_iload_n hx hb dX0_result_50 rfl (lv_at hl 3 rfl) ?_
              refine lv_iadd hx hb dX0_result_51 ?_
              exact W.iret (v := (p2 + p3)) hx hb hr (fun t ht hW => ⟨(p2 + p3), rfl, (xRes_f c_1 (fun z => z.elim c_2 c_3) c_4 c_5 c_6).symm, ht⟩) (fun _ h => absurd h List.not_mem_nil) dX0_result_52
            · refine lv_iload_n hx hb dX0_result_43 rfl (lv_at hl 1 rfl) ?_
              refine lv_iload_n hx hb dX0_result_44 rfl (lv_at hl 2 rfl) ?_
              refine lv_ixor hx hb dX0_result_45 ?_
              refine lv_goto (tgt := 52) hx hb dX0_result_46 (by decide) ?_
              exact W.iret (v := (p1 ^^^ p2)) hx hb hr (fun t ht hW => ⟨(p1 ^^^ p2), rfl, (xRes_e c_1 (fun z => z.elim c_2 c_3) c_4 c_5 c_6).symm, ht⟩) (fun _ h => absurd h List.not_mem_nil) dX0_result_52
          · refine lv_iload_n hx hb dX0_result_34 rfl (lv_at hl 1 rfl) ?_
            refine lv_iload_n hx hb dX0_result_35 rfl (lv_at hl 2 rfl) ?_
            refine lv_imul hx hb dX0_result_36 ?_
            exact W.iret (v := (p1 * p2)) hx hb hr (fun t ht hW => ⟨(p1 * p2), rfl, (xRes_d c_1 (fun z => z.elim c_2 c_3) c_4 c_5).symm, ht⟩) (fun _ h => absurd h List.not_mem_nil) dX0_result_37
        · refine lv_iload_n hx hb dX0_result_25 rfl (lv_at hl 1 rfl) ?_
          refine lv_iload_n hx hb dX0_result_26 rfl (lv_at hl 2 rfl) ?_
          refine lv_isub hx hb dX0_result_27 ?_
          exact W.iret (v := (p1 - p2)) hx hb hr (fun t ht hW => ⟨(p1 - p2), rfl, (xRes_c c_1 (fun z => z.elim c_2 c_3) c_4).symm, ht⟩) (fun _ h => absurd h List.not_mem_nil) dX0_result_28
      · refine lv_iload_n hx hb dX0_result_16 rfl (lv_at hl 1 rfl) ?_
        refine lv_iload_n hx hb dX0_result_17 rfl (lv_at hl 2 rfl) ?_
        refine lv_iadd hx hb dX0_result_18 ?_
        exact W.iret (v := (p1 + p2)) hx hb hr (fun t ht hW => ⟨(p1 + p2), rfl, (xRes_b c_1 (Or.inr c_3)).symm, ht⟩) (fun _ h => absurd h List.not_mem_nil) dX0_result_19
  · refine lv_iload_n hx hb dX0_result_4 rfl (lv_at hl 1 rfl) ?_
    exact W.iret (v := p1) hx hb hr (fun t ht hW => ⟨p1, rfl, (xRes_a c_1).symm, ht⟩) (fun _ h => absurd h List.not_mem_nil) dX0_result_5
set_option maxHeartbeats 4000000 in
set_option maxRecDepth 100000 in
/-- startOf -/
theorem metX0_startOf (l : Launch) (dC : Nat → ClassId) (dI : Nat → Nat → Nat) (dA dZ : ClassId) (h : Nat) (q : Nat → Nat) (mem bs ops tg sr sc la lb ur uw : ha_F) (cnt us sm : Int32) (p0 : Int32) : Met l yX0_startOf (ws_ yX0_startOf cX0_startOf 2 (some .int)) ({ frames := 0, cells := 0, slots := 0, locals := 0 }) (ha_R dC dI [.ref h, .int p0] (xw dA dZ h q mem bs ops tg sr sc la lb ur uw cnt us sm) (xT dA dZ)) (vp_Si (fun r => r = xSt bs p0)) 0 0 (fun _ => False) := by
  refine Met.ofW (cc := cX0_startOf) (maxL := 2) (ret := (some .int)) (by decide) rfl ?_
  intro p e s m args below meth c s₁ B hml hv
  obtain ⟨rfl, hP, hK⟩ := hv
  have hx := B.exec
  have hb := B.bytes
  have hr := B.returns
  have hts := atoms_spec (ws := ws_ yX0_startOf cX0_startOf 2 (some .int)) B.pre
  have hts : ∀ w ∈ lw_all, w.before _ s = true := fun w h => hts w (List.mem_cons_of_mem _ h)
  have hown : s.vm.findClass RX0 = some m.cls := findClass_of_methodNamed B.named
  have hlocks := B.notSynchronized
  have hP : va_P (dC, dI) vwCl (xw dA dZ h q mem bs ops tg sr sc la lb ur uw cnt us sm) s.heap := hP
  have hl := lv_entry ([.ref h, .int p0]) (n := 2) (Nat.le_of_ble_eq_true rfl)
  rw [lg_entry_eq]
  generalize (lg_sl ([.ref h, .int p0]) ++ List.replicate (2 - (lg_sl ([.ref h, .int p0])).length) Slot.unset).toArray = ls at hl ⊢
  have hl : lv_has ls 2 [(0, .ref h), (1, .int p0)] := hl
  refine lv_aload_n hx hb dX0_startOf_0 rfl (lv_at hl 0 rfl) ?_
  refine va_get (D := (dC, dI)) (ci := 0) (v := .ref (q 1)) (C := RX0) (T := TX0) (N := 13) hx hb hts in_X0 hown hK hP 0 rfl rfl 1 (by decide) (hts _ q25) (fun _ h9 => h9) rfl dX0_startOf_1 ?_
  refine lv_iload_n hx hb dX0_startOf_4 rfl (lv_at hl 1 rfl) ?_
  refine lv_bipush (v := 7) hx hb dX0_startOf_5 (by decide) ?_
  refine lv_ishr hx hb dX0_startOf_7 ?_
  refine lv_iconst (v := 3) hx hb dX0_startOf_8 (by decide) ?_
  refine lv_iand hx hb dX0_startOf_9 ?_
  refine va_iald hx hb hK hP 2 0 rfl rfl (pk_andIn _ 2 (by decide) (by decide)) dX0_startOf_10 ?_
  refine lv_iload_n hx hb dX0_startOf_11 rfl (lv_at hl 1 rfl) ?_
  refine lv_bipush (v := 15) hx hb dX0_startOf_12 (by decide) ?_
  refine lv_iand hx hb dX0_startOf_14 ?_
  refine lv_iadd hx hb dX0_startOf_15 ?_
  exact W.iret (v := ((bs ((p0 >>> (7 &&& 31)) &&& 3).toNatClampNeg) + (p0 &&& 15))) hx hb hr (fun t ht hW => ⟨((bs ((p0 >>> (7 &&& 31)) &&& 3).toNatClampNeg) + (p0 &&& 15)), rfl, rfl, ht⟩) (fun _ h => absurd h List.not_mem_nil) dX0_startOf_16
set_option maxHeartbeats 4000000 in
set_option maxRecDepth 100000 in
/-- cell -/
theorem metX0_cell (l : Launch) (dC : Nat → ClassId) (dI : Nat → Nat → Nat) (dA dZ : ClassId) (h : Nat) (q : Nat → Nat) (mem bs ops tg sr sc la lb ur uw : ha_F) (cnt us sm : Int32) (p0 p1 : Int32) : Met l yX0_cell (ws_ yX0_cell cX0_cell 3 (some .int)) ({ frames := 1, cells := 0, slots := 0, locals := 21 }) (ha_R dC dI [.ref h, .int p0, .int p1] (xw dA dZ h q mem bs ops tg sr sc la lb ur uw cnt us sm) (xT dA dZ)) (vp_Si (fun r => r = xCell bs p0 p1)) 0 0 (fun _ => False) := by
  refine Met.ofW (cc := cX0_cell) (maxL := 3) (ret := (some .int)) (by decide) rfl ?_
  intro p e s m args below meth c s₁ B hml hv
  obtain ⟨rfl, hP, hK⟩ := hv
  have hx := B.exec
  have hb := B.bytes
  have hr := B.returns
  have hts := atoms_spec (ws := ws_ yX0_cell cX0_cell 3 (some .int)) B.pre
  have hts : ∀ w ∈ lw_all, w.before _ s = true := fun w h => hts w (List.mem_cons_of_mem _ h)
  have hown : s.vm.findClass RX0 = some m.cls := findClass_of_methodNamed B.named
  have hlocks := B.notSynchronized
  have hP : va_P (dC, dI) vwCl (xw dA dZ h q mem bs ops tg sr sc la lb ur uw cnt us sm) s.heap := hP
  have hl := lv_entry ([.ref h, .int p0, .int p1]) (n := 3) (Nat.le_of_ble_eq_true rfl)
  rw [lg_entry_eq]
  generalize (lg_sl ([.ref h, .int p0, .int p1]) ++ List.replicate (3 - (lg_sl ([.ref h, .int p0, .int p1])).length) Slot.unset).toArray = ls at hl ⊢
  have hl : lv_has ls 3 [(0, .ref h), (1, .int p0), (2, .int p1)] := hl
  refine lv_aload_n hx hb dX0_cell_0 rfl (lv_at hl 0 rfl) ?_
  refine lv_iload_n hx hb dX0_cell_1 rfl (lv_at hl 1 rfl) ?_
  refine vp_callSi (W.runV (As := [.int p0]) (rest := []) ⟨hx, hb, hml, hown, hts⟩ (metX0_startOf l dC dI dA dZ h q mem bs ops tg sr sc la lb ur uw cnt us sm p0) (cwV 1 hts (lw_V q108 q110 qs3 q14 q111) rfl rfl rfl (by decide +kernel) ⟨Nat.le_of_ble_eq_true rfl, Nat.le_of_ble_eq_true rfl⟩) ⟨ha_R_blind, va_recv hK hP (ci := 0) (q0 := 0) rfl rfl, fun U hU hW => ⟨rfl, by rw [hU]; exact hP, va_K.moved hW.alike hK⟩⟩ rfl rfl hl.1 rfl (lv_room (Nat.le_of_ble_eq_true rfl)) dX0_cell_2 ⟨Nat.le_of_ble_eq_true rfl, Nat.le_of_ble_eq_true rfl⟩) (fun r_ hw => ?_)
  have hw : r_ = xSt bs p0 := hw
  subst hw
  refine lv_iload_n hx hb dX0_cell_5 rfl (lv_at hl 1 rfl) ?_
  refine vp_callSi (W.runS (As := [.int p0]) (rest := [.int (xSt bs p0)]) ⟨hx, hb, hml, hown, hts⟩ (metX0_strideOf l p0) (va_cwS 1 hts (lw_S q112 q113 q14 q114) rfl rfl rfl (by decide +kernel) ⟨Nat.le_of_ble_eq_true rfl, Nat.le_of_ble_eq_true rfl⟩) ⟨ha_N_blind, fun U hU hW => ⟨rfl, trivial⟩⟩ rfl rfl hl.1 rfl (lv_room (Nat.le_of_ble_eq_true rfl)) dX0_cell_6 ⟨Nat.le_of_ble_eq_true rfl, Nat.le_of_ble_eq_true rfl⟩) (fun r_ hw => ?_)
  have hw : r_ = xSd p0 := hw
  subst hw
  refine lv_iload_n hx hb dX0_cell_9 rfl (lv_at hl 2 rfl) ?_
  refine lv_imul hx hb dX0_cell_10 ?_
  refine lv_iadd hx hb dX0_cell_11 ?_
  refine lv_bipush (v := 63) hx hb dX0_cell_12 (by decide) ?_
  refine lv_iand hx hb dX0_cell_14 ?_
  exact W.iret (v := (((xSt bs p0) + ((xSd p0) * p1)) &&& 63)) hx hb hr (fun t ht hW => ⟨(((xSt bs p0) + ((xSd p0) * p1)) &&& 63), rfl, rfl, ht⟩) (fun _ h => absurd h List.not_mem_nil) dX0_cell_15
end
section
theorem fa_of_le_not {a b : Int32} (h : a ≤ b) : ¬ b < a := by
  rw [fa_le] at h
  rw [fa_lt]
  omega
set_option maxHeartbeats 4000000 in
set_option maxRecDepth 100000 in
/-- statement: the abstract one -/
theorem metX0_statement (l : Launch) (dC : Nat → ClassId) (dI : Nat → Nat → Nat) (dA dZ : ClassId) (h : Nat) (q : Nat → Nat) (u : ha_U) (v : ha_V) (sz : Nat) (p0 : Int32) (p1 : Int32) (p2 : Int32) (p3 : Int32) (hI : aInv u) : Met l yX0_statement (ws_ yX0_statement cX0_statement 5 (some .int)) ({ frames := 1, cells := 0, slots := 0, locals := 20 }) (ha_M dC dI [.ref h, .int p0, .int p1, .int p2, .int p3] sz (xwU dA dZ h q u v) (xT dA dZ)) (va_Qi (S := ha_U × ha_V) (fun (r : Int32) (y : ha_U × ha_V) => (r, y.1) = aStatement u p0 p1 p2 p3) (fun y t => ha_B dC dI (va_A (xwU dA dZ h q u v) sz) (xwU dA dZ h q y.1 y.2) (xT dA dZ) t) (va_A (xwU dA dZ h q u v) sz)) 0 0 (va_A (xwU dA dZ h q u v) sz) := by
  obtain ⟨mem, bs, ops, tg, sr, sc, cnt, sm⟩ := u
  obtain ⟨la, lb, ur, uw, us⟩ := v
  obtain ⟨n, hn, hcnt, hst, hbs⟩ := hI
  have hcnt : cnt = nI n := hcnt
  subst hcnt
  have hst : ∀ k, k < n → ¬ ops k < 0 ∧ ¬ 7 < ops k ∧ xRef (tg k) ∧ xRef (sr k) ∧ (xTwo (ops k) → xRef (sc k)) := hst
  have hbs : ∀ r, r < 4 → ¬ bs r < 0 ∧ bs r < 64 := hbs
  refine Met.ofW (cc := cX0_statement) (maxL := 5) (ret := (some .int)) (by decide) rfl ?_
  intro p e s m args below meth c s₁ B hml hv
  obtain ⟨rfl, hsz, hP, hK, hD0⟩ := hv
  have hx := B.exec
  have hb := B.bytes
  have hr := B.returns
  have hts := atoms_spec (ws := ws_ yX0_statement cX0_statement 5 (some .int)) B.pre
  have hts : ∀ w ∈ lw_all, w.before _ s = true := fun w h => hts w (List.mem_cons_of_mem _ h)
  have hown : s.vm.findClass RX0 = some m.cls := findClass_of_methodNamed B.named
  have hlocks := B.notSynchronized
  subst hsz
  have hD := hD0.self (sz := s.heap.size)
  generalize hAe : va_A (xwU dA dZ h q (mem, bs, ops, tg, sr, sc, nI n, sm) (la, lb, ur, uw, us)) s.heap.size = A at hD ⊢
  have hA : ∀ q : Nat, s.heap.size ≤ q → A q := fun q h => by rw [← hAe]; exact Or.inr h
  have hS : va_S A s.heap s.heap [] := va_S.rf
  have hD : va_D A (xw dA dZ h q mem bs ops tg sr sc la lb ur uw (nI n) us sm) := hD
  have hP : va_P (dC, dI) vwCl (xw dA dZ h q mem bs ops tg sr sc la lb ur uw (nI n) us sm) s.heap := hP
  have hl := lv_entry ([.ref h, .int p0, .int p1, .int p2, .int p3]) (n := 5) (Nat.le_of_ble_eq_true rfl)
  rw [lg_entry_eq]
  generalize (lg_sl ([.ref h, .int p0, .int p1, .int p2, .int p3]) ++ List.replicate (5 - (lg_sl ([.ref h, .int p0, .int p1, .int p2, .int p3])).length) Slot.unset).toArray = ls at hl ⊢
  have hl : lv_has ls 5 [(0, .ref h), (1, .int p0), (2, .int p1), (3, .int p2), (4, .int p3)] := hl
  refine lv_iload_n hx hb dX0_statement_0 rfl (lv_at hl 1 rfl) ?_
  refine lv_if_lt (tgt := 10) hx hb dX0_statement_1 (by decide) (fun c_1 => ?_) (fun c_1 => ?_)
  · refine lv_iconst (v := (-1)) hx hb dX0_statement_10 (by decide) ?_
    exact W.iret (v := (-1)) hx hb hr (fun t ht hW => ⟨⟨(-1), ((mem, bs, ops, tg, sr, sc, (nI n), sm), (la, lb, ur, uw, us)), rfl, (aSt_1 (u := (mem, bs, ops, tg, sr, sc, nI n, sm)) (Or.inl c_1)).symm, by rw [ht]; exact hP, va_K.moved hW.alike hK, hD⟩, hS.F ht⟩) hS.2.2 dX0_statement_11
  · refine lv_iload_n hx hb dX0_statement_4 rfl (lv_at hl 1 rfl) ?_
    refine lv_bipush (v := 7) hx hb dX0_statement_5 (by decide) ?_
    refine lv_icmp_le (tgt := 12) hx hb dX0_statement_7 (by decide) (fun c_2 => ?_) (fun c_2 => ?_)
    · have h1 : ¬ (p0 < 0 ∨ 7 < p0) := fun z => z.elim c_1 (fa_of_le_not c_2)
      refine lv_iload_n hx hb dX0_statement_12 rfl (lv_at hl 2 rfl) ?_
      refine vp_callSi (W.runS (As := [.int p1]) (rest := []) ⟨hx, hb, hml, hown, hts⟩ (metX0_isRef l p1) (va_cwS 1 hts (lw_S q70 q71 q14 q72) rfl rfl rfl (by decide +kernel) ⟨Nat.le_of_ble_eq_true rfl, Nat.le_of_ble_eq_true rfl⟩) ⟨ha_N_blind, fun U hU hW => ⟨rfl, trivial⟩⟩ rfl rfl hl.1 rfl (lv_room (Nat.le_of_ble_eq_true rfl)) dX0_statement_13 ⟨Nat.le_of_ble_eq_true rfl, Nat.le_of_ble_eq_true rfl⟩) (fun r_ hw => ?_)
      have hb_3 : ¬ r_ = 0 ↔ xRef p1 := hw
      clear hw
      generalize r_ = b_3 at hb_3 ⊢
      refine lv_if_ne (tgt := 22) hx hb dX0_statement_16 (by decide) (fun c_4 => ?_) (fun c_4 => ?_)
      · have h2 := hb_3.mp c_4
        refine lv_iload_n hx hb dX0_statement_22 rfl (lv_at hl 3 rfl) ?_
        refine vp_callSi (W.runS (As := [.int p2]) (rest := []) ⟨hx, hb, hml, hown, hts⟩ (metX0_isRef l p2) (va_cwS 1 hts (lw_S q70 q71 q14 q72) rfl rfl rfl (by decide +kernel) ⟨Nat.le_of_ble_eq_true rfl, Nat.le_of_ble_eq_true rfl⟩) ⟨ha_N_blind, fun U hU hW => ⟨rfl, trivial⟩⟩ rfl rfl hl.1 rfl (lv_room (Nat.le_of_ble_eq_true rfl)) dX0_statement_23 ⟨Nat.le_of_ble_eq_true rfl, Nat.le_of_ble_eq_true rfl⟩) (fun r_ hw => ?_)
        have hb_5 : ¬ r_ = 0 ↔ xRef p2 := hw
        clear hw
        generalize r_ = b_5 at hb_5 ⊢
        refine lv_if_ne (tgt := 32) hx hb dX0_statement_26 (by decide) (fun c_6 => ?_) (fun c_6 => ?_)
        · have h3 := hb_5.mp c_6
          refine ha_join (α := Unit) (P := fun _ => ¬ (xTwo p0 ∧ ¬ xRef p3)) (g := fun _ => F0 m 50 ls []) (fun _ hj => ?_) (fun K => ?_)
          · refine lv_aload_n hx hb dX0_statement_50 rfl (lv_at hl 0 rfl) ?_
            refine va_get (D := (dC, dI)) (ci := 0) (v := .int (nI n)) (C := RX0) (T := TX0) (N := 13) hx hb hts in_X0 hown hK hP 0 rfl rfl 10 (by decide) (hts _ q34) (fun _ h9 => h9) rfl dX0_statement_51 ?_
            refine lv_iconst (v := 5) hx hb dX0_statement_54 (by decide) ?_
            refine lv_icmp_ne (tgt := 61) hx hb dX0_statement_55 (by decide) (fun c_7 => ?_) (fun c_7 => ?_)
            · have h5 : ¬ nI n = 5 := c_7
              have hlt := ha_n5 hn h5
              refine lv_aload_n hx hb dX0_statement_61 rfl (lv_at hl 0 rfl) ?_
              refine va_get (D := (dC, dI)) (ci := 0) (v := .ref (q 2)) (C := RX0) (T := TX0) (N := 13) hx hb hts in_X0 hown hK hP 0 rfl rfl 2 (by decide) (hts _ q26) (fun _ h9 => h9) rfl dX0_statement_62 ?_
              refine lv_aload_n hx hb dX0_statement_65 rfl (lv_at hl 0 rfl) ?_
              refine va_get (D := (dC, dI)) (ci := 0) (v := .int (nI n)) (C := RX0) (T := TX0) (N := 13) hx hb hts in_X0 hown hK hP 0 rfl rfl 10 (by decide) (hts _ q34) (fun _ h9 => h9) rfl dX0_statement_66 ?_
              refine lv_iload_n hx hb dX0_statement_69 rfl (lv_at hl 1 rfl) ?_
              refine va_iast hx hb hK hP hD hS 3 0 rfl rfl (vp_in_nI hlt (by decide)) dX0_statement_70 (fun H locs hP hD hS => ?_)
              have hP : va_P (dC, dI) vwCl (xw dA dZ h q mem bs (upd ops (nI n).toNatClampNeg p0) tg sr sc la lb ur uw (nI n) us sm) H := hP
              have hD : va_D A (xw dA dZ h q mem bs (upd ops (nI n).toNatClampNeg p0) tg sr sc la lb ur uw (nI n) us sm) := hD
              refine lv_aload_n hx hb dX0_statement_71 rfl (lv_at hl 0 rfl) ?_
              refine va_get (D := (dC, dI)) (ci := 0) (v := .ref (q 3)) (C := RX0) (T := TX0) (N := 13) hx hb hts in_X0 hown hK hP 0 rfl rfl 3 (by decide) (hts _ q27) (fun _ h9 => h9) rfl dX0_statement_72 ?_
              refine lv_aload_n hx hb dX0_statement_75 rfl (lv_at hl 0 rfl) ?_
              refine va_get (D := (dC, dI)) (ci := 0) (v := .int (nI n)) (C := RX0) (T := TX0) (N := 13) hx hb hts in_X0 hown hK hP 0 rfl rfl 10 (by decide) (hts _ q34) (fun _ h9 => h9) rfl dX0_statement_76 ?_
              refine lv_iload_n hx hb dX0_statement_79 rfl (lv_at hl 2 rfl) ?_
              refine va_iast hx hb hK hP hD hS 4 0 rfl rfl (vp_in_nI hlt (by decide)) dX0_statement_80 (fun H locs hP hD hS => ?_)
              have hP : va_P (dC, dI) vwCl (xw dA dZ h q mem bs (upd ops (nI n).toNatClampNeg p0) (upd tg (nI n).toNatClampNeg p1) sr sc la lb ur uw (nI n) us sm) H := hP
              have hD : va_D A (xw dA dZ h q mem bs (upd ops (nI n).toNatClampNeg p0) (upd tg (nI n).toNatClampNeg p1) sr sc la lb ur uw (nI n) us sm) := hD
              refine lv_aload_n hx hb dX0_statement_81 rfl (lv_at hl 0 rfl) ?_
              refine va_get (D := (dC, dI)) (ci := 0) (v := .ref (q 4)) (C := RX0) (T := TX0) (N := 13) hx hb hts in_X0 hown hK hP 0 rfl rfl 4 (by decide) (hts _ q28) (fun _ h9 => h9) rfl dX0_statement_82 ?_
              refine lv_aload_n hx hb dX0_statement_85 rfl (lv_at hl 0 rfl) ?_
              refine va_get (D := (dC, dI)) (ci := 0) (v := .int (nI n)) (C := RX0) (T := TX0) (N := 13) hx hb hts in_X0 hown hK hP 0 rfl rfl 10 (by decide) (hts _ q34) (fun _ h9 => h9) rfl dX0_statement_86 ?_
              refine lv_iload_n hx hb dX0_statement_89 rfl (lv_at hl 3 rfl) ?_
              refine va_iast hx hb hK hP hD hS 5 0 rfl rfl (vp_in_nI hlt (by decide)) dX0_statement_90 (fun H locs hP hD hS => ?_)
              have hP : va_P (dC, dI) vwCl (xw dA dZ h q mem bs (upd ops (nI n).toNatClampNeg p0) (upd tg (nI n).toNatClampNeg p1) (upd sr (nI n).toNatClampNeg p2) sc la lb ur uw (nI n) us sm) H := hP
              have hD : va_D A (xw dA dZ h q mem bs (upd ops (nI n).toNatClampNeg p0) (upd tg (nI n).toNatClampNeg p1) (upd sr (nI n).toNatClampNeg p2) sc la lb ur uw (nI n) us sm) := hD
              refine lv_aload_n hx hb dX0_statement_91 rfl (lv_at hl 0 rfl) ?_
              refine va_get (D := (dC, dI)) (ci := 0) (v := .ref (q 5)) (C := RX0) (T := TX0) (N := 13) hx hb hts in_X0 hown hK hP 0 rfl rfl 5 (by decide) (hts _ q29) (fun _ h9 => h9) rfl dX0_statement_92 ?_
              refine lv_aload_n hx hb dX0_statement_95 rfl (lv_at hl 0 rfl) ?_
              refine va_get (D := (dC, dI)) (ci := 0) (v := .int (nI n)) (C := RX0) (T := TX0) (N := 13) hx hb hts in_X0 hown hK hP 0 rfl rfl 10 (by decide) (hts _ q34) (fun _ h9 => h9) rfl dX0_statement_96 ?_
              refine lv_iload hx hb dX0_statement_99 (lv_at hl 4 rfl) ?_
              refine va_iast hx hb hK hP hD hS 6 0 rfl rfl (vp_in_nI hlt (by decide)) dX0_statement_101 (fun H locs hP hD hS => ?_)
              have hP : va_P (dC, dI) vwCl (xw dA dZ h q mem bs (upd ops (nI n).toNatClampNeg p0) (upd tg (nI n).toNatClampNeg p1) (upd sr (nI n).toNatClampNeg p2) (upd sc (nI n).toNatClampNeg p3) la lb ur uw (nI n) us sm) H := hP
              have hD : va_D A (xw dA dZ h q mem bs (upd ops (nI n).toNatClampNeg p0) (upd tg (nI n).toNatClampNeg p1) (upd sr (nI n).toNatClampNeg p2) (upd sc (nI n).toNatClampNeg p3) la lb ur uw (nI n) us sm) := hD
              refine lv_aload_n hx hb dX0_statement_102 rfl (lv_at hl 0 rfl) ?_
              refine lv_dup hx hb dX0_statement_103 rfl ?_
              refine va_get (D := (dC, dI)) (ci := 0) (v := .int (nI n)) (C := RX0) (T := TX0) (N := 13) hx hb hts in_X0 hown hK hP 0 rfl rfl 10 (by decide) (hts _ q34) (fun _ h9 => h9) rfl dX0_statement_104 ?_
              refine lv_iconst (v := 1) hx hb dX0_statement_107 (by decide) ?_
              refine lv_iadd hx hb dX0_statement_108 ?_
              refine va_put (D := (dC, dI)) (ci := 0) (v := .int ((nI n) + 1)) (ty := .int) (C := RX0) (T := TX0) (N := 13) hx hb hts in_X0 tyX0 tyX0_ok nmX0 hown hK hP hD hS 0 rfl rfl 10 (by decide) (hts _ q34) (fun _ h9 => h9) rfl (by decide +kernel) rfl rfl (Nat.le_of_ble_eq_true rfl) dX0_statement_109 (fun H locs hP hD hS => ?_)
              have hP : va_P (dC, dI) vwCl (xw dA dZ h q mem bs (upd ops (nI n).toNatClampNeg p0) (upd tg (nI n).toNatClampNeg p1) (upd sr (nI n).toNatClampNeg p2) (upd sc (nI n).toNatClampNeg p3) la lb ur uw ((nI n) + 1) us sm) H := hP
              have hD : va_D A (xw dA dZ h q mem bs (upd ops (nI n).toNatClampNeg p0) (upd tg (nI n).toNatClampNeg p1) (upd sr (nI n).toNatClampNeg p2) (upd sc (nI n).toNatClampNeg p3) la lb ur uw ((nI n) + 1) us sm) := hD
              refine lv_aload_n hx hb dX0_statement_112 rfl (lv_at hl 0 rfl) ?_
              refine va_get (D := (dC, dI)) (ci := 0) (v := .int ((nI n) + 1)) (C := RX0) (T := TX0) (N := 13) hx hb hts in_X0 hown hK hP 0 rfl rfl 10 (by decide) (hts _ q34) (fun _ h9 => h9) rfl dX0_statement_113 ?_
              exact W.iret (v := ((nI n) + 1)) hx hb hr (fun t ht hW => ⟨⟨((nI n) + 1), ((mem, bs, (upd ops (nI n).toNatClampNeg p0), (upd tg (nI n).toNatClampNeg p1), (upd sr (nI n).toNatClampNeg p2), (upd sc (nI n).toNatClampNeg p3), ((nI n) + 1), sm), (la, lb, ur, uw, us)), rfl, (aSt_6 (u := (mem, bs, ops, tg, sr, sc, nI n, sm)) h1 h2 h3 hj h5).symm, by rw [ht]; exact hP, va_K.moved hW.alike hK, hD⟩, hS.F ht⟩) hS.2.2 dX0_statement_116
            · refine lv_bipush (v := (-5)) hx hb dX0_statement_58 (by decide) ?_
              exact W.iret (v := (-5)) hx hb hr (fun t ht hW => ⟨⟨(-5), ((mem, bs, ops, tg, sr, sc, (nI n), sm), (la, lb, ur, uw, us)), rfl, (aSt_5 (u := (mem, bs, ops, tg, sr, sc, nI n, sm)) h1 h2 h3 hj c_7).symm, by rw [ht]; exact hP, va_K.moved hW.alike hK, hD⟩, hS.F ht⟩) hS.2.2 dX0_statement_60
          · refine lv_iload_n hx hb dX0_statement_32 rfl (lv_at hl 1 rfl) ?_
            refine vp_callSi (W.runS (As := [.int p0]) (rest := []) ⟨hx, hb, hml, hown, hts⟩ (metX0_takesTwo l p0) (va_cwS 1 hts (lw_S q73 q74 q14 q75) rfl rfl rfl (by decide +kernel) ⟨Nat.le_of_ble_eq_true rfl, Nat.le_of_ble_eq_true rfl⟩) ⟨ha_N_blind, fun U hU hW => ⟨rfl, trivial⟩⟩ rfl rfl hl.1 rfl (lv_room (Nat.le_of_ble_eq_true rfl)) dX0_statement_33 ⟨Nat.le_of_ble_eq_true rfl, Nat.le_of_ble_eq_true rfl⟩) (fun r_ hw => ?_)
            have hb_8 : ¬ r_ = 0 ↔ xTwo p0 := hw
            clear hw
            generalize r_ = b_8 at hb_8 ⊢
            refine lv_if_eq (tgt := 50) hx hb dX0_statement_36 (by decide) (fun c_9 => ?_) (fun c_9 => ?_)
            · have h4 : ¬ _ := fun z => hb_8.mpr z c_9
              exact K () ((fun z => h4 z.1))
            · have h4 := hb_8.mp c_9
              refine lv_iload hx hb dX0_statement_39 (lv_at hl 4 rfl) ?_
              refine vp_callSi (W.runS (As := [.int p3]) (rest := []) ⟨hx, hb, hml, hown, hts⟩ (metX0_isRef l p3) (va_cwS 1 hts (lw_S q70 q71 q14 q72) rfl rfl rfl (by decide +kernel) ⟨Nat.le_of_ble_eq_true rfl, Nat.le_of_ble_eq_true rfl⟩) ⟨ha_N_blind, fun U hU hW => ⟨rfl, trivial⟩⟩ rfl rfl hl.1 rfl (lv_room (Nat.le_of_ble_eq_true rfl)) dX0_statement_41 ⟨Nat.le_of_ble_eq_true rfl, Nat.le_of_ble_eq_true rfl⟩) (fun r_ hw => ?_)
              have hb_10 : ¬ r_ = 0 ↔ xRef p3 := hw
              clear hw
              generalize r_ = b_10 at hb_10 ⊢
              refine lv_if_ne (tgt := 50) hx hb dX0_statement_44 (by decide) (fun c_11 => ?_) (fun c_11 => ?_)
              · have h6 := hb_10.mp c_11
                exact K () ((fun z => z.2 h6))
              · have h6 : ¬ _ := fun z => hb_10.mpr z c_11
                refine lv_bipush (v := (-4)) hx hb dX0_statement_47 (by decide) ?_
                exact W.iret (v := (-4)) hx hb hr (fun t ht hW => ⟨⟨(-4), ((mem, bs, ops, tg, sr, sc, (nI n), sm), (la, lb, ur, uw, us)), rfl, (aSt_4 (u := (mem, bs, ops, tg, sr, sc, nI n, sm)) h1 h2 h3 ⟨h4, h6⟩).symm, by rw [ht]; exact hP, va_K.moved hW.alike hK, hD⟩, hS.F ht⟩) hS.2.2 dX0_statement_49
        · have h3 : ¬ _ := fun z => hb_5.mpr z c_6
          refine lv_bipush (v := (-3)) hx hb dX0_statement_29 (by decide) ?_
          exact W.iret (v := (-3)) hx hb hr (fun t ht hW => ⟨⟨(-3), ((mem, bs, ops, tg, sr, sc, (nI n), sm), (la, lb, ur, uw, us)), rfl, (aSt_3 (u := (mem, bs, ops, tg, sr, sc, nI n, sm)) h1 h2 h3).symm, by rw [ht]; exact hP, va_K.moved hW.alike hK, hD⟩, hS.F ht⟩) hS.2.2 dX0_statement_31
      · have h2 : ¬ _ := fun z => hb_3.mpr z c_4
        refine lv_bipush (v := (-2)) hx hb dX0_statement_19 (by decide) ?_
        exact W.iret (v := (-2)) hx hb hr (fun t ht hW => ⟨⟨(-2), ((mem, bs, ops, tg, sr, sc, (nI n), sm), (la, lb, ur, uw, us)), rfl, (aSt_2 (u := (mem, bs, ops, tg, sr, sc, nI n, sm)) h1 h2).symm, by rw [ht]; exact hP, va_K.moved hW.alike hK, hD⟩, hS.F ht⟩) hS.2.2 dX0_statement_21
    · refine lv_iconst (v := (-1)) hx hb dX0_statement_10 (by decide) ?_
      exact W.iret (v := (-1)) hx hb hr (fun t ht hW => ⟨⟨(-1), ((mem, bs, ops, tg, sr, sc, (nI n), sm), (la, lb, ur, uw, us)), rfl, (aSt_1 (u := (mem, bs, ops, tg, sr, sc, nI n, sm)) (Or.inr (fa_of_nle c_2))).symm, by rw [ht]; exact hP, va_K.moved hW.alike hK, hD⟩, hS.F ht⟩) hS.2.2 dX0_statement_11
set_option maxHeartbeats 4000000 in
set_option maxRecDepth 100000 in
/-- retract -/
theorem metX0_retract (l : Launch) (dC : Nat → ClassId) (dI : Nat → Nat → Nat) (dA dZ : ClassId) (h : Nat) (q : Nat → Nat) (u : ha_U) (v : ha_V) (sz : Nat) : Met l yX0_retract (ws_ yX0_retract cX0_retract 1 (some .int)) ({ frames := 0, cells := 0, slots := 0, locals := 0 }) (ha_M dC dI [.ref h] sz (xwU dA dZ h q u v) (xT dA dZ)) (va_Qi (S := ha_U × ha_V) (fun (r : Int32) (y : ha_U × ha_V) => (r, y.1) = aRetract u) (fun y t => ha_B dC dI (va_A (xwU dA dZ h q u v) sz) (xwU dA dZ h q y.1 y.2) (xT dA dZ) t) (va_A (xwU dA dZ h q u v) sz)) 0 0 (va_A (xwU dA dZ h q u v) sz) := by
  obtain ⟨mem, bs, ops, tg, sr, sc, cnt, sm⟩ := u
  obtain ⟨la, lb, ur, uw, us⟩ := v
  refine Met.ofW (cc := cX0_retract) (maxL := 1) (ret := (some .int)) (by decide) rfl ?_
  intro p e s m args below meth c s₁ B hml hv
  obtain ⟨rfl, hsz, hP, hK, hD0⟩ := hv
  have hx := B.exec
  have hb := B.bytes
  have hr := B.returns
  have hts := atoms_spec (ws := ws_ yX0_retract cX0_retract 1 (some .int)) B.pre
  have hts : ∀ w ∈ lw_all, w.before _ s = true := fun w h => hts w (List.mem_cons_of_mem _ h)
  have hown : s.vm.findClass RX0 = some m.cls := findClass_of_methodNamed B.named
  have hlocks := B.notSynchronized
  subst hsz
  have hD := hD0.self (sz := s.heap.size)
  generalize hAe : va_A (xwU dA dZ h q (mem, bs, ops, tg, sr, sc, cnt, sm) (la, lb, ur, uw, us)) s.heap.size = A at hD ⊢
  have hA : ∀ q : Nat, s.heap.size ≤ q → A q := fun q h => by rw [← hAe]; exact Or.inr h
  have hS : va_S A s.heap s.heap [] := va_S.rf
  have hD : va_D A (xw dA dZ h q mem bs ops tg sr sc la lb ur uw cnt us sm) := hD
  have hP : va_P (dC, dI) vwCl (xw dA dZ h q mem bs ops tg sr sc la lb ur uw cnt us sm) s.heap := hP
  have hl := lv_entry ([.ref h]) (n := 1) (Nat.le_of_ble_eq_true rfl)
  rw [lg_entry_eq]
  generalize (lg_sl ([.ref h]) ++ List.replicate (1 - (lg_sl ([.ref h])).length) Slot.unset).toArray = ls at hl ⊢
  have hl : lv_has ls 1 [(0, .ref h)] := hl
  refine lv_aload_n hx hb dX0_retract_0 rfl (lv_at hl 0 rfl) ?_
  refine va_get (D := (dC, dI)) (ci := 0) (v := .int cnt) (C := RX0) (T := TX0) (N := 13) hx hb hts in_X0 hown hK hP 0 rfl rfl 10 (by decide) (hts _ q34) (fun _ h9 => h9) rfl dX0_retract_1 ?_
  refine lv_if_ne (tgt := 9) hx hb dX0_retract_4 (by decide) (fun c_1 => ?_) (fun c_1 => ?_)
  · refine lv_aload_n hx hb dX0_retract_9 rfl (lv_at hl 0 rfl) ?_
    refine lv_dup hx hb dX0_retract_10 rfl ?_
    refine va_get (D := (dC, dI)) (ci := 0) (v := .int cnt) (C := RX0) (T := TX0) (N := 13) hx hb hts in_X0 hown hK hP 0 rfl rfl 10 (by decide) (hts _ q34) (fun _ h9 => h9) rfl dX0_retract_11 ?_
    refine lv_iconst (v := 1) hx hb dX0_retract_14 (by decide) ?_
    refine lv_isub hx hb dX0_retract_15 ?_
    refine va_put (D := (dC, dI)) (ci := 0) (v := .int (cnt - 1)) (ty := .int) (C := RX0) (T := TX0) (N := 13) hx hb hts in_X0 tyX0 tyX0_ok nmX0 hown hK hP hD hS 0 rfl rfl 10 (by decide) (hts _ q34) (fun _ h9 => h9) rfl (by decide +kernel) rfl rfl (Nat.le_of_ble_eq_true rfl) dX0_retract_16 (fun H locs hP hD hS => ?_)
    have hP : va_P (dC, dI) vwCl (xw dA dZ h q mem bs ops tg sr sc la lb ur uw (cnt - 1) us sm) H := hP
    have hD : va_D A (xw dA dZ h q mem bs ops tg sr sc la lb ur uw (cnt - 1) us sm) := hD
    refine lv_aload_n hx hb dX0_retract_19 rfl (lv_at hl 0 rfl) ?_
    refine va_get (D := (dC, dI)) (ci := 0) (v := .int (cnt - 1)) (C := RX0) (T := TX0) (N := 13) hx hb hts in_X0 hown hK hP 0 rfl rfl 10 (by decide) (hts _ q34) (fun _ h9 => h9) rfl dX0_retract_20 ?_
    exact W.iret (v := (cnt - 1)) hx hb hr (fun t ht hW => ⟨⟨(cnt - 1), ((mem, bs, ops, tg, sr, sc, (cnt - 1), sm), (la, lb, ur, uw, us)), rfl, (aRt_2 (u := (mem, bs, ops, tg, sr, sc, cnt, sm)) c_1).symm, by rw [ht]; exact hP, va_K.moved hW.alike hK, hD⟩, hS.F ht⟩) hS.2.2 dX0_retract_23
  · refine lv_iconst (v := (-1)) hx hb dX0_retract_7 (by decide) ?_
    exact W.iret (v := (-1)) hx hb hr (fun t ht hW => ⟨⟨(-1), ((mem, bs, ops, tg, sr, sc, cnt, sm), (la, lb, ur, uw, us)), rfl, (aRt_1 (u := (mem, bs, ops, tg, sr, sc, cnt, sm)) c_1).symm, by rw [ht]; exact hP, va_K.moved hW.alike hK, hD⟩, hS.F ht⟩) hS.2.2 dX0_retract_8
set_option maxHeartbeats 4000000 in
set_option maxRecDepth 100000 in
/-- clear -/
theorem metX0_clear (l : Launch) (dC : Nat → ClassId) (dI : Nat → Nat → Nat) (dA dZ : ClassId) (h : Nat) (q : Nat → Nat) (u : ha_U) (v : ha_V) (sz : Nat) : Met l yX0_clear (ws_ yX0_clear cX0_clear 2 (some .int)) ({ frames := 0, cells := 0, slots := 0, locals := 0 }) (ha_M dC dI [.ref h] sz (xwU dA dZ h q u v) (xT dA dZ)) (va_Qi (S := ha_U × ha_V) (fun (r : Int32) (y : ha_U × ha_V) => (r, y.1) = aClear u) (fun y t => ha_B dC dI (va_A (xwU dA dZ h q u v) sz) (xwU dA dZ h q y.1 y.2) (xT dA dZ) t) (va_A (xwU dA dZ h q u v) sz)) 0 0 (va_A (xwU dA dZ h q u v) sz) := by
  obtain ⟨mem, bs, ops, tg, sr, sc, cnt, sm⟩ := u
  obtain ⟨la, lb, ur, uw, us⟩ := v
  refine Met.ofW (cc := cX0_clear) (maxL := 2) (ret := (some .int)) (by decide) rfl ?_
  intro p e s m args below meth c s₁ B hml hv
  obtain ⟨rfl, hsz, hP, hK, hD0⟩ := hv
  have hx := B.exec
  have hb := B.bytes
  have hr := B.returns
  have hts := atoms_spec (ws := ws_ yX0_clear cX0_clear 2 (some .int)) B.pre
  have hts : ∀ w ∈ lw_all, w.before _ s = true := fun w h => hts w (List.mem_cons_of_mem _ h)
  have hown : s.vm.findClass RX0 = some m.cls := findClass_of_methodNamed B.named
  have hlocks := B.notSynchronized
  subst hsz
  have hD := hD0.self (sz := s.heap.size)
  generalize hAe : va_A (xwU dA dZ h q (mem, bs, ops, tg, sr, sc, cnt, sm) (la, lb, ur, uw, us)) s.heap.size = A at hD ⊢
  have hA : ∀ q : Nat, s.heap.size ≤ q → A q := fun q h => by rw [← hAe]; exact Or.inr h
  have hS : va_S A s.heap s.heap [] := va_S.rf
  have hD : va_D A (xw dA dZ h q mem bs ops tg sr sc la lb ur uw cnt us sm) := hD
  have hP : va_P (dC, dI) vwCl (xw dA dZ h q mem bs ops tg sr sc la lb ur uw cnt us sm) s.heap := hP
  have hl := lv_entry ([.ref h]) (n := 2) (Nat.le_of_ble_eq_true rfl)
  rw [lg_entry_eq]
  generalize (lg_sl ([.ref h]) ++ List.replicate (2 - (lg_sl ([.ref h])).length) Slot.unset).toArray = ls at hl ⊢
  have hl : lv_has ls 2 [(0, .ref h)] := hl
  refine lv_aload_n hx hb dX0_clear_0 rfl (lv_at hl 0 rfl) ?_
  refine va_get (D := (dC, dI)) (ci := 0) (v := .int cnt) (C := RX0) (T := TX0) (N := 13) hx hb hts in_X0 hown hK hP 0 rfl rfl 10 (by decide) (hts _ q34) (fun _ h9 => h9) rfl dX0_clear_1 ?_
  refine lv_istore_n (lv' := [(1, .int cnt), (0, .ref h)]) hx hb dX0_clear_4 rfl hl (by decide) rfl (fun ls hl => ?_)
  refine lv_aload_n hx hb dX0_clear_5 rfl (lv_at hl 1 rfl) ?_
  refine lv_iconst (v := 0) hx hb dX0_clear_6 (by decide) ?_
  refine va_put (D := (dC, dI)) (ci := 0) (v := .int 0) (ty := .int) (C := RX0) (T := TX0) (N := 13) hx hb hts in_X0 tyX0 tyX0_ok nmX0 hown hK hP hD hS 0 rfl rfl 10 (by decide) (hts _ q34) (fun _ h9 => h9) rfl (by decide +kernel) rfl rfl (Nat.le_of_ble_eq_true rfl) dX0_clear_7 (fun H locs hP hD hS => ?_)
  have hP : va_P (dC, dI) vwCl (xw dA dZ h q mem bs ops tg sr sc la lb ur uw 0 us sm) H := hP
  have hD : va_D A (xw dA dZ h q mem bs ops tg sr sc la lb ur uw 0 us sm) := hD
  refine lv_iload_n hx hb dX0_clear_10 rfl (lv_at hl 0 rfl) ?_
  exact W.iret (v := cnt) hx hb hr (fun t ht hW => ⟨⟨cnt, ((mem, bs, ops, tg, sr, sc, 0, sm), (la, lb, ur, uw, us)), rfl, rfl, by rw [ht]; exact hP, va_K.moved hW.alike hK, hD⟩, hS.F ht⟩) hS.2.2 dX0_clear_11
set_option maxHeartbeats 4000000 in
set_option maxRecDepth 100000 in
/-- statements -/
theorem metX0_statements (l : Launch) (dC : Nat → ClassId) (dI : Nat → Nat → Nat) (dA dZ : ClassId) (h : Nat) (q : Nat → Nat) (u : ha_U) (v : ha_V) : Met l yX0_statements (ws_ yX0_statements cX0_statements 1 (some .int)) ({ frames := 0, cells := 0, slots := 0, locals := 0 }) (ha_R dC dI [.ref h] (xwU dA dZ h q u v) (xT dA dZ)) (vp_Si (fun r => r = u.2.2.2.2.2.2.1)) 0 0 (fun _ => False) := by
  obtain ⟨mem, bs, ops, tg, sr, sc, cnt, sm⟩ := u
  obtain ⟨la, lb, ur, uw, us⟩ := v
  refine Met.ofW (cc := cX0_statements) (maxL := 1) (ret := (some .int)) (by decide) rfl ?_
  intro p e s m args below meth c s₁ B hml hv
  obtain ⟨rfl, hP, hK⟩ := hv
  have hx := B.exec
  have hb := B.bytes
  have hr := B.returns
  have hts := atoms_spec (ws := ws_ yX0_statements cX0_statements 1 (some .int)) B.pre
  have hts : ∀ w ∈ lw_all, w.before _ s = true := fun w h => hts w (List.mem_cons_of_mem _ h)
  have hown : s.vm.findClass RX0 = some m.cls := findClass_of_methodNamed B.named
  have hlocks := B.notSynchronized
  have hP : va_P (dC, dI) vwCl (xw dA dZ h q mem bs ops tg sr sc la lb ur uw cnt us sm) s.heap := hP
  have hl := lv_entry ([.ref h]) (n := 1) (Nat.le_of_ble_eq_true rfl)
  rw [lg_entry_eq]
  generalize (lg_sl ([.ref h]) ++ List.replicate (1 - (lg_sl ([.ref h])).length) Slot.unset).toArray = ls at hl ⊢
  have hl : lv_has ls 1 [(0, .ref h)] := hl
  refine lv_aload_n hx hb dX0_statements_0 rfl (lv_at hl 0 rfl) ?_
  refine va_get (D := (dC, dI)) (ci := 0) (v := .int cnt) (C := RX0) (T := TX0) (N := 13) hx hb hts in_X0 hown hK hP 0 rfl rfl 10 (by decide) (hts _ q34) (fun _ h9 => h9) rfl dX0_statements_1 ?_
  exact W.iret (v := cnt) hx hb hr (fun t ht hW => ⟨cnt, rfl, rfl, ht⟩) (fun _ h => absurd h List.not_mem_nil) dX0_statements_4
set_option maxHeartbeats 4000000 in
set_option maxRecDepth 100000 in
/-- total -/
theorem metX0_total (l : Launch) (dC : Nat → ClassId) (dI : Nat → Nat → Nat) (dA dZ : ClassId) (h : Nat) (q : Nat → Nat) (u : ha_U) (v : ha_V) : Met l yX0_total (ws_ yX0_total cX0_total 1 (some .int)) ({ frames := 0, cells := 0, slots := 0, locals := 0 }) (ha_R dC dI [.ref h] (xwU dA dZ h q u v) (xT dA dZ)) (vp_Si (fun r => r = u.2.2.2.2.2.2.2)) 0 0 (fun _ => False) := by
  obtain ⟨mem, bs, ops, tg, sr, sc, cnt, sm⟩ := u
  obtain ⟨la, lb, ur, uw, us⟩ := v
  refine Met.ofW (cc := cX0_total) (maxL := 1) (ret := (some .int)) (by decide) rfl ?_
  intro p e s m args below meth c s₁ B hml hv
  obtain ⟨rfl, hP, hK⟩ := hv
  have hx := B.exec
  have hb := B.bytes
  have hr := B.returns
  have hts := atoms_spec (ws := ws_ yX0_total cX0_total 1 (some .int)) B.pre
  have hts : ∀ w ∈ lw_all, w.before _ s = true := fun w h => hts w (List.mem_cons_of_mem _ h)
  have hown : s.vm.findClass RX0 = some m.cls := findClass_of_methodNamed B.named
  have hlocks := B.notSynchronized
  have hP : va_P (dC, dI) vwCl (xw dA dZ h q mem bs ops tg sr sc la lb ur uw cnt us sm) s.heap := hP
  have hl := lv_entry ([.ref h]) (n := 1) (Nat.le_of_ble_eq_true rfl)
  rw [lg_entry_eq]
  generalize (lg_sl ([.ref h]) ++ List.replicate (1 - (lg_sl ([.ref h])).length) Slot.unset).toArray = ls at hl ⊢
  have hl : lv_has ls 1 [(0, .ref h)] := hl
  refine lv_aload_n hx hb dX0_total_0 rfl (lv_at hl 0 rfl) ?_
  refine va_get (D := (dC, dI)) (ci := 0) (v := .int sm) (C := RX0) (T := TX0) (N := 13) hx hb hts in_X0 hown hK hP 0 rfl rfl 12 (by decide) (hts _ q36) (fun _ h9 => h9) rfl dX0_total_1 ?_
  exact W.iret (v := sm) hx hb hr (fun t ht hW => ⟨sm, rfl, rfl, ht⟩) (fun _ h => absurd h List.not_mem_nil) dX0_total_4
set_option maxHeartbeats 4000000 in
set_option maxRecDepth 100000 in
/-- setTotal -/
theorem metX0_setTotal (l : Launch) (dC : Nat → ClassId) (dI : Nat → Nat → Nat) (dA dZ : ClassId) (h : Nat) (q : Nat → Nat) (u : ha_U) (v : ha_V) (sz : Nat) (p0 : Int32) : Met l yX0_setTotal (ws_ yX0_setTotal cX0_setTotal 3 (some .int)) ({ frames := 0, cells := 0, slots := 0, locals := 0 }) (ha_M dC dI [.ref h, .int p0] sz (xwU dA dZ h q u v) (xT dA dZ)) (va_Qi (S := ha_U × ha_V) (fun (r : Int32) (y : ha_U × ha_V) => (r, y.1) = aSetTotal u p0) (fun y t => ha_B dC dI (va_A (xwU dA dZ h q u v) sz) (xwU dA dZ h q y.1 y.2) (xT dA dZ) t) (va_A (xwU dA dZ h q u v) sz)) 0 0 (va_A (xwU dA dZ h q u v) sz) := by
  obtain ⟨mem, bs, ops, tg, sr, sc, cnt, sm⟩ := u
  obtain ⟨la, lb, ur, uw, us⟩ := v
  refine Met.ofW (cc := cX0_setTotal) (maxL := 3) (ret := (some .int)) (by decide) rfl ?_
  intro p e s m args below meth c s₁ B hml hv
  obtain ⟨rfl, hsz, hP, hK, hD0⟩ := hv
  have hx := B.exec
  have hb := B.bytes
  have hr := B.returns
  have hts := atoms_spec (ws := ws_ yX0_setTotal cX0_setTotal 3 (some .int)) B.pre
  have hts : ∀ w ∈ lw_all, w.before _ s = true := fun w h => hts w (List.mem_cons_of_mem _ h)
  have hown : s.vm.findClass RX0 = some m.cls := findClass_of_methodNamed B.named
  have hlocks := B.notSynchronized
  subst hsz
  have hD := hD0.self (sz := s.heap.size)
  generalize hAe : va_A (xwU dA dZ h q (mem, bs, ops, tg, sr, sc, cnt, sm) (la, lb, ur, uw, us)) s.heap.size = A at hD ⊢
  have hA : ∀ q : Nat, s.heap.size ≤ q → A q := fun q h => by rw [← hAe]; exact Or.inr h
  have hS : va_S A s.heap s.heap [] := va_S.rf
  have hD : va_D A (xw dA dZ h q mem bs ops tg sr sc la lb ur uw cnt us sm) := hD
  have hP : va_P (dC, dI) vwCl (xw dA dZ h q mem bs ops tg sr sc la lb ur uw cnt us sm) s.heap := hP
  have hl := lv_entry ([.ref h, .int p0]) (n := 3) (Nat.le_of_ble_eq_true rfl)
  rw [lg_entry_eq]
  generalize (lg_sl ([.ref h, .int p0]) ++ List.replicate (3 - (lg_sl ([.ref h, .int p0])).length) Slot.unset).toArray = ls at hl ⊢
  have hl : lv_has ls 3 [(0, .ref h), (1, .int p0)] := hl
  refine lv_aload_n hx hb dX0_setTotal_0 rfl (lv_at hl 0 rfl) ?_
  refine va_get (D := (dC, dI)) (ci := 0) (v := .int sm) (C := RX0) (T := TX0) (N := 13) hx hb hts in_X0 hown hK hP 0 rfl rfl 12 (by decide) (hts _ q36) (fun _ h9 => h9) rfl dX0_setTotal_1 ?_
  refine lv_istore_n (lv' := [(2, .int sm), (0, .ref h), (1, .int p0)]) hx hb dX0_setTotal_4 rfl hl (by decide) rfl (fun ls hl => ?_)
  refine lv_aload_n hx hb dX0_setTotal_5 rfl (lv_at hl 1 rfl) ?_
  refine lv_iload_n hx hb dX0_setTotal_6 rfl (lv_at hl 2 rfl) ?_
  refine va_put (D := (dC, dI)) (ci := 0) (v := .int p0) (ty := .int) (C := RX0) (T := TX0) (N := 13) hx hb hts in_X0 tyX0 tyX0_ok nmX0 hown hK hP hD hS 0 rfl rfl 12 (by decide) (hts _ q36) (fun _ h9 => h9) rfl (by decide +kernel) rfl rfl (Nat.le_of_ble_eq_true rfl) dX0_setTotal_7 (fun H locs hP hD hS => ?_)
  have hP : va_P (dC, dI) vwCl (xw dA dZ h q mem bs ops tg sr sc la lb ur uw cnt us p0) H := hP
  have hD : va_D A (xw dA dZ h q mem bs ops tg sr sc la lb ur uw cnt us p0) := hD
  refine lv_iload_n hx hb dX0_setTotal_10 rfl (lv_at hl 0 rfl) ?_
  exact W.iret (v := sm) hx hb hr (fun t ht hW => ⟨⟨sm, ((mem, bs, ops, tg, sr, sc, cnt, p0), (la, lb, ur, uw, us)), rfl, rfl, by rw [ht]; exact hP, va_K.moved hW.alike hK, hD⟩, hS.F ht⟩) hS.2.2 dX0_setTotal_11
set_option maxHeartbeats 4000000 in
set_option maxRecDepth 100000 in
/-- base -/
theorem metX0_base (l : Launch) (dC : Nat → ClassId) (dI : Nat → Nat → Nat) (dA dZ : ClassId) (h : Nat) (q : Nat → Nat) (u : ha_U) (v : ha_V) (sz : Nat) (p0 : Int32) (p1 : Int32) : Met l yX0_base (ws_ yX0_base cX0_base 4 (some .int)) ({ frames := 0, cells := 0, slots := 0, locals := 0 }) (ha_M dC dI [.ref h, .int p0, .int p1] sz (xwU dA dZ h q u v) (xT dA dZ)) (va_Qi (S := ha_U × ha_V) (fun (r : Int32) (y : ha_U × ha_V) => (r, y.1) = aBase u p0 p1) (fun y t => ha_B dC dI (va_A (xwU dA dZ h q u v) sz) (xwU dA dZ h q y.1 y.2) (xT dA dZ) t) (va_A (xwU dA dZ h q u v) sz)) 0 0 (va_A (xwU dA dZ h q u v) sz) := by
  obtain ⟨mem, bs, ops, tg, sr, sc, cnt, sm⟩ := u
  obtain ⟨la, lb, ur, uw, us⟩ := v
  refine Met.ofW (cc := cX0_base) (maxL := 4) (ret := (some .int)) (by decide) rfl ?_
  intro p e s m args below meth c s₁ B hml hv
  obtain ⟨rfl, hsz, hP, hK, hD0⟩ := hv
  have hx := B.exec
  have hb := B.bytes
  have hr := B.returns
  have hts := atoms_spec (ws := ws_ yX0_base cX0_base 4 (some .int)) B.pre
  have hts : ∀ w ∈ lw_all, w.before _ s = true := fun w h => hts w (List.mem_cons_of_mem _ h)
  have hown : s.vm.findClass RX0 = some m.cls := findClass_of_methodNamed B.named
  have hlocks := B.notSynchronized
  subst hsz
  have hD := hD0.self (sz := s.heap.size)
  generalize hAe : va_A (xwU dA dZ h q (mem, bs, ops, tg, sr, sc, cnt, sm) (la, lb, ur, uw, us)) s.heap.size = A at hD ⊢
  have hA : ∀ q : Nat, s.heap.size ≤ q → A q := fun q h => by rw [← hAe]; exact Or.inr h
  have hS : va_S A s.heap s.heap [] := va_S.rf
  have hD : va_D A (xw dA dZ h q mem bs ops tg sr sc la lb ur uw cnt us sm) := hD
  have hP : va_P (dC, dI) vwCl (xw dA dZ h q mem bs ops tg sr sc la lb ur uw cnt us sm) s.heap := hP
  have hl := lv_entry ([.ref h, .int p0, .int p1]) (n := 4) (Nat.le_of_ble_eq_true rfl)
  rw [lg_entry_eq]
  generalize (lg_sl ([.ref h, .int p0, .int p1]) ++ List.replicate (4 - (lg_sl ([.ref h, .int p0, .int p1])).length) Slot.unset).toArray = ls at hl ⊢
  have hl : lv_has ls 4 [(0, .ref h), (1, .int p0), (2, .int p1)] := hl
  refine lv_iload_n hx hb dX0_base_0 rfl (lv_at hl 1 rfl) ?_
  refine lv_if_lt (tgt := 9) hx hb dX0_base_1 (by decide) (fun c_1 => ?_) (fun c_1 => ?_)
  · refine lv_iconst (v := (-1)) hx hb dX0_base_9 (by decide) ?_
    exact W.iret (v := (-1)) hx hb hr (fun t ht hW => ⟨⟨(-1), ((mem, bs, ops, tg, sr, sc, cnt, sm), (la, lb, ur, uw, us)), rfl, (aBs_1 (u := (mem, bs, ops, tg, sr, sc, cnt, sm)) (Or.inl c_1)).symm, by rw [ht]; exact hP, va_K.moved hW.alike hK, hD⟩, hS.F ht⟩) hS.2.2 dX0_base_10
  · refine lv_iload_n hx hb dX0_base_4 rfl (lv_at hl 1 rfl) ?_
    refine lv_iconst (v := 3) hx hb dX0_base_5 (by decide) ?_
    refine lv_icmp_le (tgt := 11) hx hb dX0_base_6 (by decide) (fun c_2 => ?_) (fun c_2 => ?_)
    · refine lv_iload_n hx hb dX0_base_11 rfl (lv_at hl 2 rfl) ?_
      refine lv_if_lt (tgt := 21) hx hb dX0_base_12 (by decide) (fun c_3 => ?_) (fun c_3 => ?_)
      · refine lv_bipush (v := (-2)) hx hb dX0_base_21 (by decide) ?_
        exact W.iret (v := (-2)) hx hb hr (fun t ht hW => ⟨⟨(-2), ((mem, bs, ops, tg, sr, sc, cnt, sm), (la, lb, ur, uw, us)), rfl, (aBs_2 (u := (mem, bs, ops, tg, sr, sc, cnt, sm)) (fun z => z.elim c_1 (fa_of_le_not c_2)) (Or.inl c_3)).symm, by rw [ht]; exact hP, va_K.moved hW.alike hK, hD⟩, hS.F ht⟩) hS.2.2 dX0_base_23
      · refine lv_iload_n hx hb dX0_base_15 rfl (lv_at hl 2 rfl) ?_
        refine lv_bipush (v := 64) hx hb dX0_base_16 (by decide) ?_
        refine lv_icmp_lt (tgt := 24) hx hb dX0_base_18 (by decide) (fun c_4 => ?_) (fun c_4 => ?_)
        · refine lv_aload_n hx hb dX0_base_24 rfl (lv_at hl 0 rfl) ?_
          refine va_get (D := (dC, dI)) (ci := 0) (v := .ref (q 1)) (C := RX0) (T := TX0) (N := 13) hx hb hts in_X0 hown hK hP 0 rfl rfl 1 (by decide) (hts _ q25) (fun _ h9 => h9) rfl dX0_base_25 ?_
          refine lv_iload_n hx hb dX0_base_28 rfl (lv_at hl 1 rfl) ?_
          refine va_iald hx hb hK hP 2 0 rfl rfl (ha_in4 c_1 (fa_of_le_not c_2)) dX0_base_29 ?_
          refine lv_istore_n (lv' := [(3, .int (bs p0.toNatClampNeg)), (0, .ref h), (1, .int p0), (2, .int p1)]) hx hb dX0_base_30 rfl hl (by decide) rfl (fun ls hl => ?_)
          refine lv_aload_n hx hb dX0_base_31 rfl (lv_at hl 1 rfl) ?_
          refine va_get (D := (dC, dI)) (ci := 0) (v := .ref (q 1)) (C := RX0) (T := TX0) (N := 13) hx hb hts in_X0 hown hK hP 0 rfl rfl 1 (by decide) (hts _ q25) (fun _ h9 => h9) rfl dX0_base_32 ?_
          refine lv_iload_n hx hb dX0_base_35 rfl (lv_at hl 2 rfl) ?_
          refine lv_iload_n hx hb dX0_base_36 rfl (lv_at hl 3 rfl) ?_
          refine va_iast hx hb hK hP hD hS 2 0 rfl rfl (ha_in4 c_1 (fa_of_le_not c_2)) dX0_base_37 (fun H locs hP hD hS => ?_)
          have hP : va_P (dC, dI) vwCl (xw dA dZ h q mem (upd bs p0.toNatClampNeg p1) ops tg sr sc la lb ur uw cnt us sm) H := hP
          have hD : va_D A (xw dA dZ h q mem (upd bs p0.toNatClampNeg p1) ops tg sr sc la lb ur uw cnt us sm) := hD
          refine lv_iload_n hx hb dX0_base_38 rfl (lv_at hl 0 rfl) ?_
          exact W.iret (v := (bs p0.toNatClampNeg)) hx hb hr (fun t ht hW => ⟨⟨(bs p0.toNatClampNeg), ((mem, (upd bs p0.toNatClampNeg p1), ops, tg, sr, sc, cnt, sm), (la, lb, ur, uw, us)), rfl, (aBs_3 (u := (mem, bs, ops, tg, sr, sc, cnt, sm)) (fun z => z.elim c_1 (fa_of_le_not c_2)) (fun z => z.elim c_3 (fun y => y c_4))).symm, by rw [ht]; exact hP, va_K.moved hW.alike hK, hD⟩, hS.F ht⟩) hS.2.2 dX0_base_39
        · refine lv_bipush (v := (-2)) hx hb dX0_base_21 (by decide) ?_
          exact W.iret (v := (-2)) hx hb hr (fun t ht hW => ⟨⟨(-2), ((mem, bs, ops, tg, sr, sc, cnt, sm), (la, lb, ur, uw, us)), rfl, (aBs_2 (u := (mem, bs, ops, tg, sr, sc, cnt, sm)) (fun z => z.elim c_1 (fa_of_le_not c_2)) (Or.inr c_4)).symm, by rw [ht]; exact hP, va_K.moved hW.alike hK, hD⟩, hS.F ht⟩) hS.2.2 dX0_base_23
    · refine lv_iconst (v := (-1)) hx hb dX0_base_9 (by decide) ?_
      exact W.iret (v := (-1)) hx hb hr (fun t ht hW => ⟨⟨(-1), ((mem, bs, ops, tg, sr, sc, cnt, sm), (la, lb, ur, uw, us)), rfl, (aBs_1 (u := (mem, bs, ops, tg, sr, sc, cnt, sm)) (Or.inr (fa_of_nle c_2))).symm, by rw [ht]; exact hP, va_K.moved hW.alike hK, hD⟩, hS.F ht⟩) hS.2.2 dX0_base_10
set_option maxHeartbeats 4000000 in
set_option maxRecDepth 100000 in
/-- poke -/
theorem metX0_poke (l : Launch) (dC : Nat → ClassId) (dI : Nat → Nat → Nat) (dA dZ : ClassId) (h : Nat) (q : Nat → Nat) (u : ha_U) (v : ha_V) (sz : Nat) (p0 : Int32) (p1 : Int32) : Met l yX0_poke (ws_ yX0_poke cX0_poke 3 (some .int)) ({ frames := 0, cells := 0, slots := 0, locals := 0 }) (ha_M dC dI [.ref h, .int p0, .int p1] sz (xwU dA dZ h q u v) (xT dA dZ)) (va_Qi (S := ha_U × ha_V) (fun (r : Int32) (y : ha_U × ha_V) => (r, y.1) = aPoke u p0 p1) (fun y t => ha_B dC dI (va_A (xwU dA dZ h q u v) sz) (xwU dA dZ h q y.1 y.2) (xT dA dZ) t) (va_A (xwU dA dZ h q u v) sz)) 0 0 (va_A (xwU dA dZ h q u v) sz) := by
  obtain ⟨mem, bs, ops, tg, sr, sc, cnt, sm⟩ := u
  obtain ⟨la, lb, ur, uw, us⟩ := v
  refine Met.ofW (cc := cX0_poke) (maxL := 3) (ret := (some .int)) (by decide) rfl ?_
  intro p e s m args below meth c s₁ B hml hv
  obtain ⟨rfl, hsz, hP, hK, hD0⟩ := hv
  have hx := B.exec
  have hb := B.bytes
  have hr := B.returns
  have hts := atoms_spec (ws := ws_ yX0_poke cX0_poke 3 (some .int)) B.pre
  have hts : ∀ w ∈ lw_all, w.before _ s = true := fun w h => hts w (List.mem_cons_of_mem _ h)
  have hown : s.vm.findClass RX0 = some m.cls := findClass_of_methodNamed B.named
  have hlocks := B.notSynchronized
  subst hsz
  have hD := hD0.self (sz := s.heap.size)
  generalize hAe : va_A (xwU dA dZ h q (mem, bs, ops, tg, sr, sc, cnt, sm) (la, lb, ur, uw, us)) s.heap.size = A at hD ⊢
  have hA : ∀ q : Nat, s.heap.size ≤ q → A q := fun q h => by rw [← hAe]; exact Or.inr h
  have hS : va_S A s.heap s.heap [] := va_S.rf
  have hD : va_D A (xw dA dZ h q mem bs ops tg sr sc la lb ur uw cnt us sm) := hD
  have hP : va_P (dC, dI) vwCl (xw dA dZ h q mem bs ops tg sr sc la lb ur uw cnt us sm) s.heap := hP
  have hl := lv_entry ([.ref h, .int p0, .int p1]) (n := 3) (Nat.le_of_ble_eq_true rfl)
  rw [lg_entry_eq]
  generalize (lg_sl ([.ref h, .int p0, .int p1]) ++ List.replicate (3 - (lg_sl ([.ref h, .int p0, .int p1])).length) Slot.unset).toArray = ls at hl ⊢
  have hl : lv_has ls 3 [(0, .ref h), (1, .int p0), (2, .int p1)] := hl
  refine lv_iload_n hx hb dX0_poke_0 rfl (lv_at hl 1 rfl) ?_
  refine lv_if_lt (tgt := 10) hx hb dX0_poke_1 (by decide) (fun c_1 => ?_) (fun c_1 => ?_)
  · refine lv_iconst (v := (-1)) hx hb dX0_poke_10 (by decide) ?_
    exact W.iret (v := (-1)) hx hb hr (fun t ht hW => ⟨⟨(-1), ((mem, bs, ops, tg, sr, sc, cnt, sm), (la, lb, ur, uw, us)), rfl, (aPk_1 (u := (mem, bs, ops, tg, sr, sc, cnt, sm)) (Or.inl c_1)).symm, by rw [ht]; exact hP, va_K.moved hW.alike hK, hD⟩, hS.F ht⟩) hS.2.2 dX0_poke_11
  · refine lv_iload_n hx hb dX0_poke_4 rfl (lv_at hl 1 rfl) ?_
    refine lv_bipush (v := 64) hx hb dX0_poke_5 (by decide) ?_
    refine lv_icmp_lt (tgt := 12) hx hb dX0_poke_7 (by decide) (fun c_2 => ?_) (fun c_2 => ?_)
    · refine lv_aload_n hx hb dX0_poke_12 rfl (lv_at hl 0 rfl) ?_
      refine va_get (D := (dC, dI)) (ci := 0) (v := .ref (q 0)) (C := RX0) (T := TX0) (N := 13) hx hb hts in_X0 hown hK hP 0 rfl rfl 0 (by decide) (hts _ q24) (fun _ h9 => h9) rfl dX0_poke_13 ?_
      refine lv_iload_n hx hb dX0_poke_16 rfl (lv_at hl 1 rfl) ?_
      refine lv_iload_n hx hb dX0_poke_17 rfl (lv_at hl 2 rfl) ?_
      refine va_iast hx hb hK hP hD hS 1 0 rfl rfl (ha_in64 c_1 c_2) dX0_poke_18 (fun H locs hP hD hS => ?_)
      have hP : va_P (dC, dI) vwCl (xw dA dZ h q (upd mem p0.toNatClampNeg p1) bs ops tg sr sc la lb ur uw cnt us sm) H := hP
      have hD : va_D A (xw dA dZ h q (upd mem p0.toNatClampNeg p1) bs ops tg sr sc la lb ur uw cnt us sm) := hD
      refine lv_iconst (v := 0) hx hb dX0_poke_19 (by decide) ?_
      exact W.iret (v := 0) hx hb hr (fun t ht hW => ⟨⟨0, (((upd mem p0.toNatClampNeg p1), bs, ops, tg, sr, sc, cnt, sm), (la, lb, ur, uw, us)), rfl, (aPk_2 (u := (mem, bs, ops, tg, sr, sc, cnt, sm)) (fun z => z.elim c_1 (fun y => y c_2))).symm, by rw [ht]; exact hP, va_K.moved hW.alike hK, hD⟩, hS.F ht⟩) hS.2.2 dX0_poke_20
    · refine lv_iconst (v := (-1)) hx hb dX0_poke_10 (by decide) ?_
      exact W.iret (v := (-1)) hx hb hr (fun t ht hW => ⟨⟨(-1), ((mem, bs, ops, tg, sr, sc, cnt, sm), (la, lb, ur, uw, us)), rfl, (aPk_1 (u := (mem, bs, ops, tg, sr, sc, cnt, sm)) (Or.inr c_2)).symm, by rw [ht]; exact hP, va_K.moved hW.alike hK, hD⟩, hS.F ht⟩) hS.2.2 dX0_poke_11
set_option maxHeartbeats 4000000 in
set_option maxRecDepth 100000 in
/-- peek -/
theorem metX0_peek (l : Launch) (dC : Nat → ClassId) (dI : Nat → Nat → Nat) (dA dZ : ClassId) (h : Nat) (q : Nat → Nat) (u : ha_U) (v : ha_V) (p0 : Int32) : Met l yX0_peek (ws_ yX0_peek cX0_peek 2 (some .int)) ({ frames := 0, cells := 0, slots := 0, locals := 0 }) (ha_R dC dI [.ref h, .int p0] (xwU dA dZ h q u v) (xT dA dZ)) (vp_Si (fun r => r = aPeek u p0)) 0 0 (fun _ => False) := by
  obtain ⟨mem, bs, ops, tg, sr, sc, cnt, sm⟩ := u
  obtain ⟨la, lb, ur, uw, us⟩ := v
  refine Met.ofW (cc := cX0_peek) (maxL := 2) (ret := (some .int)) (by decide) rfl ?_
  intro p e s m args below meth c s₁ B hml hv
  obtain ⟨rfl, hP, hK⟩ := hv
  have hx := B.exec
  have hb := B.bytes
  have hr := B.returns
  have hts := atoms_spec (ws := ws_ yX0_peek cX0_peek 2 (some .int)) B.pre
  have hts : ∀ w ∈ lw_all, w.before _ s = true := fun w h => hts w (List.mem_cons_of_mem _ h)
  have hown : s.vm.findClass RX0 = some m.cls := findClass_of_methodNamed B.named
  have hlocks := B.notSynchronized
  have hP : va_P (dC, dI) vwCl (xw dA dZ h q mem bs ops tg sr sc la lb ur uw cnt us sm) s.heap := hP
  have hl := lv_entry ([.ref h, .int p0]) (n := 2) (Nat.le_of_ble_eq_true rfl)
  rw [lg_entry_eq]
  generalize (lg_sl ([.ref h, .int p0]) ++ List.replicate (2 - (lg_sl ([.ref h, .int p0])).length) Slot.unset).toArray = ls at hl ⊢
  have hl : lv_has ls 2 [(0, .ref h), (1, .int p0)] := hl
  refine lv_iload_n hx hb dX0_peek_0 rfl (lv_at hl 1 rfl) ?_
  refine lv_if_lt (tgt := 10) hx hb dX0_peek_1 (by decide) (fun c_1 => ?_) (fun c_1 => ?_)
  · refine lv_iconst (v := 0) hx hb dX0_peek_10 (by decide) ?_
    refine lv_goto (tgt := 20) hx hb dX0_peek_11 (by decide) ?_
    exact W.iret (v := 0) hx hb hr (fun t ht hW => ⟨0, rfl, (aPe_1 (u := (mem, bs, ops, tg, sr, sc, cnt, sm)) (Or.inl c_1)).symm, ht⟩) (fun _ h => absurd h List.not_mem_nil) dX0_peek_20
  · refine lv_iload_n hx hb dX0_peek_4 rfl (lv_at hl 1 rfl) ?_
    refine lv_bipush (v := 64) hx hb dX0_peek_5 (by decide) ?_
    refine lv_icmp_lt (tgt := 14) hx hb dX0_peek_7 (by decide) (fun c_2 => ?_) (fun c_2 => ?_)
    · refine lv_aload_n hx hb dX0_peek_14 rfl (lv_at hl 0 rfl) ?_
      refine va_get (D := (dC, dI)) (ci := 0) (v := .ref (q 0)) (C := RX0) (T := TX0) (N := 13) hx hb hts in_X0 hown hK hP 0 rfl rfl 0 (by decide) (hts _ q24) (fun _ h9 => h9) rfl dX0_peek_15 ?_
      refine lv_iload_n hx hb dX0_peek_18 rfl (lv_at hl 1 rfl) ?_
      refine va_iald hx hb hK hP 1 0 rfl rfl (ha_in64 c_1 c_2) dX0_peek_19 ?_
      exact W.iret (v := (mem p0.toNatClampNeg)) hx hb hr (fun t ht hW => ⟨(mem p0.toNatClampNeg), rfl, (aPe_2 (u := (mem, bs, ops, tg, sr, sc, cnt, sm)) (fun z => z.elim c_1 (fun y => y c_2))).symm, ht⟩) (fun _ h => absurd h List.not_mem_nil) dX0_peek_20
    · refine lv_iconst (v := 0) hx hb dX0_peek_10 (by decide) ?_
      refine lv_goto (tgt := 20) hx hb dX0_peek_11 (by decide) ?_
      exact W.iret (v := 0) hx hb hr (fun t ht hW => ⟨0, rfl, (aPe_1 (u := (mem, bs, ops, tg, sr, sc, cnt, sm)) (Or.inr c_2)).symm, ht⟩) (fun _ h => absurd h List.not_mem_nil) dX0_peek_20
set_option maxHeartbeats 4000000 in
set_option maxRecDepth 100000 in
/-- cellOf -/
theorem metX0_cellOf (l : Launch) (dC : Nat → ClassId) (dI : Nat → Nat → Nat) (dA dZ : ClassId) (h : Nat) (q : Nat → Nat) (u : ha_U) (v : ha_V) (p0 : Int32) (p1 : Int32) : Met l yX0_cellOf (ws_ yX0_cellOf cX0_cellOf 3 (some .int)) ({ frames := 2, cells := 0, slots := 0, locals := 43 }) (ha_R dC dI [.ref h, .int p0, .int p1] (xwU dA dZ h q u v) (xT dA dZ)) (vp_Si (fun r => r = aCellOf u p0 p1)) 0 0 (fun _ => False) := by
  obtain ⟨mem, bs, ops, tg, sr, sc, cnt, sm⟩ := u
  obtain ⟨la, lb, ur, uw, us⟩ := v
  refine Met.ofW (cc := cX0_cellOf) (maxL := 3) (ret := (some .int)) (by decide) rfl ?_
  intro p e s m args below meth c s₁ B hml hv
  obtain ⟨rfl, hP, hK⟩ := hv
  have hx := B.exec
  have hb := B.bytes
  have hr := B.returns
  have hts := atoms_spec (ws := ws_ yX0_cellOf cX0_cellOf 3 (some .int)) B.pre
  have hts : ∀ w ∈ lw_all, w.before _ s = true := fun w h => hts w (List.mem_cons_of_mem _ h)
  have hown : s.vm.findClass RX0 = some m.cls := findClass_of_methodNamed B.named
  have hlocks := B.notSynchronized
  have hP : va_P (dC, dI) vwCl (xw dA dZ h q mem bs ops tg sr sc la lb ur uw cnt us sm) s.heap := hP
  have hl := lv_entry ([.ref h, .int p0, .int p1]) (n := 3) (Nat.le_of_ble_eq_true rfl)
  rw [lg_entry_eq]
  generalize (lg_sl ([.ref h, .int p0, .int p1]) ++ List.replicate (3 - (lg_sl ([.ref h, .int p0, .int p1])).length) Slot.unset).toArray = ls at hl ⊢
  have hl : lv_has ls 3 [(0, .ref h), (1, .int p0), (2, .int p1)] := hl
  refine lv_iload_n hx hb dX0_cellOf_0 rfl (lv_at hl 1 rfl) ?_
  refine vp_callSi (W.runS (As := [.int p0]) (rest := []) ⟨hx, hb, hml, hown, hts⟩ (metX0_isRef l p0) (va_cwS 1 hts (lw_S q70 q71 q14 q72) rfl rfl rfl (by decide +kernel) ⟨Nat.le_of_ble_eq_true rfl, Nat.le_of_ble_eq_true rfl⟩) ⟨ha_N_blind, fun U hU hW => ⟨rfl, trivial⟩⟩ rfl rfl hl.1 rfl (lv_room (Nat.le_of_ble_eq_true rfl)) dX0_cellOf_1 ⟨Nat.le_of_ble_eq_true rfl, Nat.le_of_ble_eq_true rfl⟩) (fun r_ hw => ?_)
  have hb_1 : ¬ r_ = 0 ↔ xRef p0 := hw
  clear hw
  generalize r_ = b_1 at hb_1 ⊢
  refine lv_if_ne (tgt := 9) hx hb dX0_cellOf_4 (by decide) (fun c_2 => ?_) (fun c_2 => ?_)
  · have h2 := hb_1.mp c_2
    refine lv_iload_n hx hb dX0_cellOf_9 rfl (lv_at hl 2 rfl) ?_
    refine lv_if_lt (tgt := 19) hx hb dX0_cellOf_10 (by decide) (fun c_3 => ?_) (fun c_3 => ?_)
    · refine lv_bipush (v := (-2)) hx hb dX0_cellOf_19 (by decide) ?_
      exact W.iret (v := (-2)) hx hb hr (fun t ht hW => ⟨(-2), rfl, (aCo_2 (u := (mem, bs, ops, tg, sr, sc, cnt, sm)) h2 (Or.inl c_3)).symm, ht⟩) (fun _ h => absurd h List.not_mem_nil) dX0_cellOf_21
    · refine lv_iload_n hx hb dX0_cellOf_13 rfl (lv_at hl 2 rfl) ?_
      refine lv_bipush (v := 39) hx hb dX0_cellOf_14 (by decide) ?_
      refine lv_icmp_le (tgt := 22) hx hb dX0_cellOf_16 (by decide) (fun c_4 => ?_) (fun c_4 => ?_)
      · refine lv_aload_n hx hb dX0_cellOf_22 rfl (lv_at hl 0 rfl) ?_
        refine lv_iload_n hx hb dX0_cellOf_23 rfl (lv_at hl 1 rfl) ?_
        refine lv_iload_n hx hb dX0_cellOf_24 rfl (lv_at hl 2 rfl) ?_
        refine vp_callSi (W.runV (As := [.int p0, .int p1]) (rest := []) ⟨hx, hb, hml, hown, hts⟩ (metX0_cell l dC dI dA dZ h q mem bs ops tg sr sc la lb ur uw cnt us sm p0 p1) (cwV 2 hts (lw_V q130 q132 qs7 q14 q133) rfl rfl rfl (by decide +kernel) ⟨Nat.le_of_ble_eq_true rfl, Nat.le_of_ble_eq_true rfl⟩) ⟨ha_R_blind, va_recv hK hP (ci := 0) (q0 := 0) rfl rfl, fun U hU hW => ⟨rfl, by rw [hU]; exact hP, va_K.moved hW.alike hK⟩⟩ rfl rfl hl.1 rfl (lv_room (Nat.le_of_ble_eq_true rfl)) dX0_cellOf_25 ⟨Nat.le_of_ble_eq_true rfl, Nat.le_of_ble_eq_true rfl⟩) (fun r_ hw => ?_)
        have hw : r_ = xCell bs p0 p1 := hw
        subst hw
        exact W.iret (v := (xCell bs p0 p1)) hx hb hr (fun t ht hW => ⟨(xCell bs p0 p1), rfl, (aCo_3 (u := (mem, bs, ops, tg, sr, sc, cnt, sm)) h2 (fun z => z.elim c_3 (fa_of_le_not c_4))).symm, ht⟩) (fun _ h => absurd h List.not_mem_nil) dX0_cellOf_28
      · refine lv_bipush (v := (-2)) hx hb dX0_cellOf_19 (by decide) ?_
        exact W.iret (v := (-2)) hx hb hr (fun t ht hW => ⟨(-2), rfl, (aCo_2 (u := (mem, bs, ops, tg, sr, sc, cnt, sm)) h2 (Or.inr (fa_of_nle c_4))).symm, ht⟩) (fun _ h => absurd h List.not_mem_nil) dX0_cellOf_21
  · have h2 : ¬ _ := fun z => hb_1.mpr z c_2
    refine lv_iconst (v := (-1)) hx hb dX0_cellOf_7 (by decide) ?_
    exact W.iret (v := (-1)) hx hb hr (fun t ht hW => ⟨(-1), rfl, (aCo_1 (u := (mem, bs, ops, tg, sr, sc, cnt, sm)) h2).symm, ht⟩) (fun _ h => absurd h List.not_mem_nil) dX0_cellOf_8
end
section
theorem aFl_3 {u : ha_U} {op d s w : Int32} (h : ¬ (op < 0 ∨ d < op ∨ ¬ d < 64)) {a b j : Nat} (e1 : op.toNatClampNeg = a) (e2 : d.toNatClampNeg = b) (ej : j = b + 1 - a) : aFill u op d s w = (0, aMem u (xFill u.1 op s w a j) u.2.2.2.2.2.2.2) := by rw [aFl_2 h, e1, e2, ej]
theorem ha_lt64 {v : Int32} (h : ¬ v < 0) (h2 : v < 64) : ∃ b : Nat, b < 64 ∧ v = nI b := by
  obtain ⟨j, hj, rfl⟩ := nI_of h
  exact ⟨j, (nI_ltI (b := 64) hj (by decide)).mp h2, rfl⟩
theorem ha_cmp0 (x : Int64) : lg_cmp x 0 = 0 ↔ x = 0 := by
  unfold lg_cmp
  split
  · rename_i h
    constructor
    · intro z; exact absurd z (by decide)
    · intro z; subst z; exact absurd h (by decide)
  · split
    · rename_i h; exact ⟨fun _ => h, fun _ => rfl⟩
    · rename_i h; exact ⟨fun z => absurd z (by decide), fun z => absurd z h⟩
set_option maxHeartbeats 4000000 in
set_option maxRecDepth 100000 in
/-- fill -/
theorem metX0_fill (l : Launch) (dC : Nat → ClassId) (dI : Nat → Nat → Nat) (dA dZ : ClassId) (h : Nat) (q : Nat → Nat) (u : ha_U) (v : ha_V) (sz : Nat) (p0 : Int32) (p1 : Int32) (p2 : Int32) (p3 : Int32) : Met l yX0_fill (ws_ yX0_fill cX0_fill 6 (some .int)) ({ frames := 0, cells := 0, slots := 0, locals := 0 }) (ha_M dC dI [.ref h, .int p0, .int p1, .int p2, .int p3] sz (xwU dA dZ h q u v) (xT dA dZ)) (va_Qi (S := ha_U × ha_V) (fun (r : Int32) (y : ha_U × ha_V) => (r, y.1) = aFill u p0 p1 p2 p3) (fun y t => ha_B dC dI (va_A (xwU dA dZ h q u v) sz) (xwU dA dZ h q y.1 y.2) (xT dA dZ) t) (va_A (xwU dA dZ h q u v) sz)) 0 0 (va_A (xwU dA dZ h q u v) sz) := by
  obtain ⟨mem, bs, ops, tg, sr, sc, cnt, sm⟩ := u
  obtain ⟨la, lb, ur, uw, us⟩ := v
  refine Met.ofW (cc := cX0_fill) (maxL := 6) (ret := (some .int)) (by decide) rfl ?_
  intro p e s m args below meth c s₁ B hml hv
  obtain ⟨rfl, hsz, hP, hK, hD0⟩ := hv
  have hx := B.exec
  have hb := B.bytes
  have hr := B.returns
  have hts := atoms_spec (ws := ws_ yX0_fill cX0_fill 6 (some .int)) B.pre
  have hts : ∀ w ∈ lw_all, w.before _ s = true := fun w h => hts w (List.mem_cons_of_mem _ h)
  have hown : s.vm.findClass RX0 = some m.cls := findClass_of_methodNamed B.named
  have hlocks := B.notSynchronized
  subst hsz
  have hD := hD0.self (sz := s.heap.size)
  generalize hAe : va_A (xwU dA dZ h q (mem, bs, ops, tg, sr, sc, cnt, sm) (la, lb, ur, uw, us)) s.heap.size = A at hD ⊢
  have hA : ∀ q : Nat, s.heap.size ≤ q → A q := fun q h => by rw [← hAe]; exact Or.inr h
  have hS : va_S A s.heap s.heap [] := va_S.rf
  have hD : va_D A (xw dA dZ h q mem bs ops tg sr sc la lb ur uw cnt us sm) := hD
  have hP : va_P (dC, dI) vwCl (xw dA dZ h q mem bs ops tg sr sc la lb ur uw cnt us sm) s.heap := hP
  have hl := lv_entry ([.ref h, .int p0, .int p1, .int p2, .int p3]) (n := 6) (Nat.le_of_ble_eq_true rfl)
  rw [lg_entry_eq]
  generalize (lg_sl ([.ref h, .int p0, .int p1, .int p2, .int p3]) ++ List.replicate (6 - (lg_sl ([.ref h, .int p0, .int p1, .int p2, .int p3])).length) Slot.unset).toArray = ls at hl ⊢
  have hl : lv_has ls 6 [(0, .ref h), (1, .int p0), (2, .int p1), (3, .int p2), (4, .int p3)] := hl
  refine lv_iload_n hx hb dX0_fill_0 rfl (lv_at hl 1 rfl) ?_
  refine lv_if_lt (tgt := 15) hx hb dX0_fill_1 (by decide) (fun c_1 => ?_) (fun c_1 => ?_)
  · refine lv_iconst (v := (-1)) hx hb dX0_fill_15 (by decide) ?_
    exact W.iret (v := (-1)) hx hb hr (fun t ht hW => ⟨⟨(-1), ((mem, bs, ops, tg, sr, sc, cnt, sm), (la, lb, ur, uw, us)), rfl, (aFl_1 (u := (mem, bs, ops, tg, sr, sc, cnt, sm)) (Or.inl c_1)).symm, by rw [ht]; exact hP, va_K.moved hW.alike hK, hD⟩, hS.F ht⟩) hS.2.2 dX0_fill_16
  · refine lv_iload_n hx hb dX0_fill_4 rfl (lv_at hl 1 rfl) ?_
    refine lv_iload_n hx hb dX0_fill_5 rfl (lv_at hl 2 rfl) ?_
    refine lv_icmp_gt (tgt := 15) hx hb dX0_fill_6 (by decide) (fun c_2 => ?_) (fun c_2 => ?_)
    · refine lv_iconst (v := (-1)) hx hb dX0_fill_15 (by decide) ?_
      exact W.iret (v := (-1)) hx hb hr (fun t ht hW => ⟨⟨(-1), ((mem, bs, ops, tg, sr, sc, cnt, sm), (la, lb, ur, uw, us)), rfl, (aFl_1 (u := (mem, bs, ops, tg, sr, sc, cnt, sm)) (Or.inr (Or.inl c_2))).symm, by rw [ht]; exact hP, va_K.moved hW.alike hK, hD⟩, hS.F ht⟩) hS.2.2 dX0_fill_16
    · refine lv_iload_n hx hb dX0_fill_9 rfl (lv_at hl 2 rfl) ?_
      refine lv_bipush (v := 64) hx hb dX0_fill_10 (by decide) ?_
      refine lv_icmp_lt (tgt := 17) hx hb dX0_fill_12 (by decide) (fun c_3 => ?_) (fun c_3 => ?_)
      · have hg : ¬ (p0 < 0 ∨ p1 < p0 ∨ ¬ p1 < 64) := fun z => z.elim c_1 (fun z => z.elim c_2 (fun z => z c_3))
        obtain ⟨a, ha, ea⟩ := nI_of c_1
        obtain ⟨b, hb64, eb⟩ := ha_lt64 (fun z => hg (Or.inr (Or.inl (fa_trans z (by rw [ea]; exact nI_pos' ha))))) (Decidable.byContradiction fun z => hg (Or.inr (Or.inr z)))
        have hab : a ≤ b := by rcases Nat.lt_or_ge b a with z | z; exact absurd (by rw [ea, eb]; exact nI_lt z ha) c_2; exact z
        have e1 : p0.toNatClampNeg = a := by rw [ea]; exact nI_clamp ha
        have e2 : p1.toNatClampNeg = b := by rw [eb]; exact nI_clamp (by omega)
        refine lv_iload_n hx hb dX0_fill_17 rfl (lv_at hl 1 rfl) ?_
        refine lv_istore (lv' := [(5, .int p0), (0, .ref h), (1, .int p0), (2, .int p1), (3, .int p2), (4, .int p3)]) hx hb dX0_fill_18 hl (by decide) rfl (fun ls hl => ?_)
        refine ha_loop (σ := Nat × Heap × List Loc × Array Slot) (fun x => b + 1 - a - x.1) (fun x => (x.1 ≤ b + 1 - a) ∧ (va_P (dC, dI) vwCl (xw dA dZ h q (xFill mem p0 p2 p3 a x.1) bs ops tg sr sc la lb ur uw cnt us sm) x.2.1) ∧ (va_D A (xw dA dZ h q (xFill mem p0 p2 p3 a x.1) bs ops tg sr sc la lb ur uw cnt us sm)) ∧ (va_S A s.heap x.2.1 x.2.2.1) ∧ (lv_has x.2.2.2 6 [(5, .int (nI (a + x.1))), (0, .ref h), (1, .int p0), (2, .int p1), (3, .int p2), (4, .int p3)])) (fun x => x.2.1) (fun x => x.2.2.1) (fun x => F0 m 20 x.2.2.2 []) ?_ (0, s.heap, [], ls) ⟨Nat.zero_le _, hP, hD, hS, by show lv_has ls 6 [(5, .int (nI (a + 0))), (0, .ref h), (1, .int p0), (2, .int p1), (3, .int p2), (4, .int p3)]; rw [Nat.add_zero, ← ea]; exact lv_sub hl [0, 1, 2, 3, 4, 5] rfl⟩
        rintro ⟨j, H, locs, ls⟩ ⟨hj, hP, hD, hS, hl⟩ ih
        have hj : j ≤ b + 1 - a := hj
        have hP : va_P (dC, dI) vwCl (xw dA dZ h q (xFill mem p0 p2 p3 a j) bs ops tg sr sc la lb ur uw cnt us sm) H := hP
        have hD : va_D A (xw dA dZ h q (xFill mem p0 p2 p3 a j) bs ops tg sr sc la lb ur uw cnt us sm) := hD
        have hS : va_S A s.heap H locs := hS
        have hl : lv_has ls 6 [(5, .int (nI (a + j))), (0, .ref h), (1, .int p0), (2, .int p1), (3, .int p2), (4, .int p3)] := hl
        show W p l e _ s m _ below meth c H locs _ _ _ (F0 m 20 ls [])
        refine lv_iload hx hb dX0_fill_20 (lv_at hl 0 rfl) ?_
        refine lv_iload_n hx hb dX0_fill_22 rfl (lv_at hl 3 rfl) ?_
        refine lv_icmp_gt (tgt := 48) hx hb dX0_fill_23 (by decide) (fun c_4 => ?_) (fun c_4 => ?_)
        · have hxt : b < a + j := (nI_ltI (by omega) (by omega)).mp (by rw [← eb]; exact c_4)
          refine lv_iconst (v := 0) hx hb dX0_fill_48 (by decide) ?_
          exact W.iret (v := 0) hx hb hr (fun t ht hW => ⟨⟨0, (((xFill mem p0 p2 p3 a j), bs, ops, tg, sr, sc, cnt, sm), (la, lb, ur, uw, us)), rfl, (aFl_3 (u := (mem, bs, ops, tg, sr, sc, cnt, sm)) hg e1 e2 (by omega)).symm, by rw [ht]; exact hP, va_K.moved hW.alike hK, hD⟩, hS.F ht⟩) hS.2.2 dX0_fill_49
        · have hlt : a + j ≤ b := by rcases Nat.lt_or_ge b (a + j) with z | z; exact absurd (by rw [eb]; exact nI_lt z (by omega)) c_4; exact z
          refine lv_aload_n hx hb dX0_fill_26 rfl (lv_at hl 1 rfl) ?_
          refine va_get (D := (dC, dI)) (ci := 0) (v := .ref (q 0)) (C := RX0) (T := TX0) (N := 13) hx hb hts in_X0 hown hK hP 0 rfl rfl 0 (by decide) (hts _ q24) (fun _ h9 => h9) rfl dX0_fill_27 ?_
          refine lv_iload hx hb dX0_fill_30 (lv_at hl 0 rfl) ?_
          refine lv_iload_n hx hb dX0_fill_32 rfl (lv_at hl 4 rfl) ?_
          refine lv_iload hx hb dX0_fill_33 (lv_at hl 0 rfl) ?_
          refine lv_iload_n hx hb dX0_fill_35 rfl (lv_at hl 2 rfl) ?_
          refine lv_isub hx hb dX0_fill_36 ?_
          refine lv_iload hx hb dX0_fill_37 (lv_at hl 5 rfl) ?_
          refine lv_imul hx hb dX0_fill_39 ?_
          refine lv_iadd hx hb dX0_fill_40 ?_
          refine ha_st hx hb hK hP hD hS 1 0 rfl rfl (a + j) (rfl) (by omega) (by decide) dX0_fill_41 (fun H locs hP hD hS => ?_)
          have hP : va_P (dC, dI) vwCl (xw dA dZ h q (upd (xFill mem p0 p2 p3 a j) (a + j) (p2 + (((nI (a + j)) - p0) * p3))) bs ops tg sr sc la lb ur uw cnt us sm) H := hP
          have hD : va_D A (xw dA dZ h q (upd (xFill mem p0 p2 p3 a j) (a + j) (p2 + (((nI (a + j)) - p0) * p3))) bs ops tg sr sc la lb ur uw cnt us sm) := hD
          refine lv_iinc (v := nI (a + (j + 1))) (lv' := [(5, .int (nI (a + (j + 1)))), (0, .ref h), (1, .int p0), (2, .int p1), (3, .int p2), (4, .int p3)]) hx hb dX0_fill_42 hl (k := 0) rfl (nI_1 (a + j)) (by decide) rfl (fun ls hl => ?_)
          refine lv_goto (tgt := 20) hx hb dX0_fill_45 (by decide) ?_
          exact ih (j + 1, H, locs, ls) ⟨by omega, hP, hD, hS, lv_sub hl [0, 1, 2, 3, 4, 5] rfl⟩ (by dsimp only; omega)
      · refine lv_iconst (v := (-1)) hx hb dX0_fill_15 (by decide) ?_
        exact W.iret (v := (-1)) hx hb hr (fun t ht hW => ⟨⟨(-1), ((mem, bs, ops, tg, sr, sc, cnt, sm), (la, lb, ur, uw, us)), rfl, (aFl_1 (u := (mem, bs, ops, tg, sr, sc, cnt, sm)) (Or.inr (Or.inr c_3))).symm, by rw [ht]; exact hP, va_K.moved hW.alike hK, hD⟩, hS.F ht⟩) hS.2.2 dX0_fill_16
set_option maxHeartbeats 4000000 in
set_option maxRecDepth 100000 in
/-- digest -/
theorem metX0_digest (l : Launch) (dC : Nat → ClassId) (dI : Nat → Nat → Nat) (dA dZ : ClassId) (h : Nat) (q : Nat → Nat) (u : ha_U) (v : ha_V) : Met l yX0_digest (ws_ yX0_digest cX0_digest 3 (some .int)) ({ frames := 0, cells := 0, slots := 0, locals := 0 }) (ha_R dC dI [.ref h] (xwU dA dZ h q u v) (xT dA dZ)) (vp_Si (fun r => r = xDig u.1 64)) 0 0 (fun _ => False) := by
  obtain ⟨mem, bs, ops, tg, sr, sc, cnt, sm⟩ := u
  obtain ⟨la, lb, ur, uw, us⟩ := v
  refine Met.ofW (cc := cX0_digest) (maxL := 3) (ret := (some .int)) (by decide) rfl ?_
  intro p e s m args below meth c s₁ B hml hv
  obtain ⟨rfl, hP, hK⟩ := hv
  have hx := B.exec
  have hb := B.bytes
  have hr := B.returns
  have hts := atoms_spec (ws := ws_ yX0_digest cX0_digest 3 (some .int)) B.pre
  have hts : ∀ w ∈ lw_all, w.before _ s = true := fun w h => hts w (List.mem_cons_of_mem _ h)
  have hown : s.vm.findClass RX0 = some m.cls := findClass_of_methodNamed B.named
  have hlocks := B.notSynchronized
  have hP : va_P (dC, dI) vwCl (xw dA dZ h q mem bs ops tg sr sc la lb ur uw cnt us sm) s.heap := hP
  have hl := lv_entry ([.ref h]) (n := 3) (Nat.le_of_ble_eq_true rfl)
  rw [lg_entry_eq]
  generalize (lg_sl ([.ref h]) ++ List.replicate (3 - (lg_sl ([.ref h])).length) Slot.unset).toArray = ls at hl ⊢
  have hl : lv_has ls 3 [(0, .ref h)] := hl
  refine lv_iconst (v := 0) hx hb dX0_digest_0 (by decide) ?_
  refine lv_istore_n (lv' := [(1, .int 0), (0, .ref h)]) hx hb dX0_digest_1 rfl hl (by decide) rfl (fun ls hl => ?_)
  refine lv_iconst (v := 0) hx hb dX0_digest_2 (by decide) ?_
  refine lv_istore_n (lv' := [(2, .int 0), (1, .int 0), (0, .ref h)]) hx hb dX0_digest_3 rfl hl (by decide) rfl (fun ls hl => ?_)
  refine ha_loop (σ := Nat × Array Slot) (fun x => 64 - x.1) (fun x => (x.1 ≤ 64) ∧ (lv_has x.2 3 [(2, .int (nI (x.1))), (1, .int (xDig mem (x.1))), (0, .ref h)])) (fun x => s.heap) (fun x => []) (fun x => F0 m 4 x.2 []) ?_ (0, ls) ⟨Nat.zero_le _, lv_sub hl [0, 1, 2] rfl⟩
  rintro ⟨i, ls⟩ ⟨hi, hl⟩ ih
  have hi : i ≤ 64 := hi
  have hl : lv_has ls 3 [(2, .int (nI i)), (1, .int (xDig mem i)), (0, .ref h)] := hl
  show W p l e _ s m _ below meth c s.heap [] _ _ _ (F0 m 4 ls [])
  refine lv_iload_n hx hb dX0_digest_4 rfl (lv_at hl 0 rfl) ?_
  refine lv_bipush (v := 64) hx hb dX0_digest_5 (by decide) ?_
  refine lv_icmp_ge (tgt := 29) hx hb dX0_digest_7 (by decide) (fun c_1 => ?_) (fun c_1 => ?_)
  · have hi64 : i = 64 := by have z := (nI_leI (a := 64) (b := i) (by decide) (by omega)).mp c_1; omega
    subst hi64
    refine lv_iload_n hx hb dX0_digest_29 rfl (lv_at hl 1 rfl) ?_
    exact W.iret (v := (xDig mem 64)) hx hb hr (fun t ht hW => ⟨(xDig mem 64), rfl, rfl, ht⟩) (fun _ h => absurd h List.not_mem_nil) dX0_digest_30
  · have hlt : i < 64 := by rcases Nat.lt_or_ge i 64 with z | z; exact z; exact absurd (nI_le z (by omega)) c_1
    refine lv_iload_n hx hb dX0_digest_10 rfl (lv_at hl 1 rfl) ?_
    refine lv_iload_n hx hb dX0_digest_11 rfl (lv_at hl 0 rfl) ?_
    refine lv_iconst (v := 1) hx hb dX0_digest_12 (by decide) ?_
    refine lv_iadd hx hb dX0_digest_13 ?_
    refine lv_aload_n hx hb dX0_digest_14 rfl (lv_at hl 2 rfl) ?_
    refine va_get (D := (dC, dI)) (ci := 0) (v := .ref (q 0)) (C := RX0) (T := TX0) (N := 13) hx hb hts in_X0 hown hK hP 0 rfl rfl 0 (by decide) (hts _ q24) (fun _ h9 => h9) rfl dX0_digest_15 ?_
    refine lv_iload_n hx hb dX0_digest_18 rfl (lv_at hl 0 rfl) ?_
    refine ha_ld hx hb hK hP 1 0 rfl rfl i (rfl) (hlt) (by decide) dX0_digest_19 ?_
    refine lv_imul hx hb dX0_digest_20 ?_
    refine lv_iadd hx hb dX0_digest_21 ?_
    refine lv_istore_n (lv' := [(1, .int ((xDig mem i) + (((nI i) + 1) * (mem i)))), (2, .int (nI i)), (0, .ref h)]) hx hb dX0_digest_22 rfl hl (by decide) rfl (fun ls hl => ?_)
    refine lv_iinc (v := nI (i + 1)) (lv' := [(2, .int (nI (i + 1))), (1, .int ((xDig mem i) + (((nI i) + 1) * (mem i)))), (0, .ref h)]) hx hb dX0_digest_23 hl (k := 1) rfl (nI_1 i) (by decide) rfl (fun ls hl => ?_)
    refine lv_goto (tgt := 4) hx hb dX0_digest_26 (by decide) ?_
    exact ih (i + 1, ls) ⟨by omega, lv_sub hl [0, 1, 2] rfl⟩ (by dsimp only; omega)
set_option maxHeartbeats 4000000 in
set_option maxRecDepth 100000 in
/-- cellSet: the cells of the first T rounds -/
theorem metX0_cellSet (l : Launch) (dC : Nat → ClassId) (dI : Nat → Nat → Nat) (dA dZ : ClassId) (h : Nat) (q : Nat → Nat) (mem bs ops tg sr sc la lb ur uw : ha_F) (cnt us sm : Int32) (p0 : Int32) (T : Nat) (hT : T ≤ 40) : Met l yX0_cellSet (ws_ yX0_cellSet cX0_cellSet 7 (some .long)) ({ frames := 1, cells := 0, slots := 0, locals := 21 }) (ha_R dC dI [.ref h, .int p0, .int (nI T)] (xw dA dZ h q mem bs ops tg sr sc la lb ur uw cnt us sm) (xT dA dZ)) (vp_Sl (fun r => r = xSet bs p0 T)) 0 0 (fun _ => False) := by
  refine Met.ofW (cc := cX0_cellSet) (maxL := 7) (ret := (some .long)) (by decide) rfl ?_
  intro p e s m args below meth c s₁ B hml hv
  obtain ⟨rfl, hP, hK⟩ := hv
  have hx := B.exec
  have hb := B.bytes
  have hr := B.returns
  have hts := atoms_spec (ws := ws_ yX0_cellSet cX0_cellSet 7 (some .long)) B.pre
  have hts : ∀ w ∈ lw_all, w.before _ s = true := fun w h => hts w (List.mem_cons_of_mem _ h)
  have hown : s.vm.findClass RX0 = some m.cls := findClass_of_methodNamed B.named
  have hlocks := B.notSynchronized
  have hP : va_P (dC, dI) vwCl (xw dA dZ h q mem bs ops tg sr sc la lb ur uw cnt us sm) s.heap := hP
  have hl := lv_entry ([.ref h, .int p0, .int (nI T)]) (n := 7) (Nat.le_of_ble_eq_true rfl)
  rw [lg_entry_eq]
  generalize (lg_sl ([.ref h, .int p0, .int (nI T)]) ++ List.replicate (7 - (lg_sl ([.ref h, .int p0, .int (nI T)])).length) Slot.unset).toArray = ls at hl ⊢
  have hl : lv_has ls 7 [(0, .ref h), (1, .int p0), (2, .int (nI T))] := hl
  refine lv_lconst (v := 0) hx hb dX0_cellSet_0 (by decide) ?_
  refine lv_lstore_n (lv' := [(3, .long 0), (0, .ref h), (1, .int p0), (2, .int (nI T))]) hx hb dX0_cellSet_1 rfl hl (by decide) rfl (fun ls hl => ?_)
  refine lv_aload_n hx hb dX0_cellSet_2 rfl (lv_at hl 1 rfl) ?_
  refine lv_iload_n hx hb dX0_cellSet_3 rfl (lv_at hl 2 rfl) ?_
  refine vp_callSi (W.runV (As := [.int p0]) (rest := []) ⟨hx, hb, hml, hown, hts⟩ (metX0_startOf l dC dI dA dZ h q mem bs ops tg sr sc la lb ur uw cnt us sm p0) (cwV 1 hts (lw_V q108 q110 qs3 q14 q111) rfl rfl rfl (by decide +kernel) ⟨Nat.le_of_ble_eq_true rfl, Nat.le_of_ble_eq_true rfl⟩) ⟨ha_R_blind, va_recv hK hP (ci := 0) (q0 := 0) rfl rfl, fun U hU hW => ⟨rfl, by rw [hU]; exact hP, va_K.moved hW.alike hK⟩⟩ rfl rfl hl.1 rfl (lv_room (Nat.le_of_ble_eq_true rfl)) dX0_cellSet_4 ⟨Nat.le_of_ble_eq_true rfl, Nat.le_of_ble_eq_true rfl⟩) (fun r_ hw => ?_)
  have hw : r_ = xSt bs p0 := hw
  subst hw
  refine lv_bipush (v := 63) hx hb dX0_cellSet_7 (by decide) ?_
  refine lv_iand hx hb dX0_cellSet_9 ?_
  refine lv_istore (lv' := [(5, .int ((xSt bs p0) &&& 63)), (3, .long 0), (0, .ref h), (1, .int p0), (2, .int (nI T))]) hx hb dX0_cellSet_10 hl (by decide) rfl (fun ls hl => ?_)
  refine lv_iconst (v := 0) hx hb dX0_cellSet_12 (by decide) ?_
  refine lv_istore (lv' := [(6, .int 0), (5, .int ((xSt bs p0) &&& 63)), (3, .long 0), (0, .ref h), (1, .int p0), (2, .int (nI T))]) hx hb dX0_cellSet_13 hl (by decide) rfl (fun ls hl => ?_)
  refine ha_loop (σ := Nat × Array Slot) (fun x => T - x.1) (fun x => (x.1 ≤ T) ∧ (lv_has x.2 7 [(6, .int (nI (x.1))), (5, .int (xCell bs p0 (nI (x.1)))), (3, .long (xSet bs p0 (x.1))), (0, .ref h), (1, .int p0), (2, .int (nI T))])) (fun x => s.heap) (fun x => []) (fun x => F0 m 15 x.2 []) ?_ (0, ls) ⟨Nat.zero_le _, by show lv_has ls 7 [(6, .int (nI 0)), (5, .int (xCell bs p0 (nI 0))), (3, .long (xSet bs p0 0)), (0, .ref h), (1, .int p0), (2, .int (nI T))]; rw [← xCell_0]; exact lv_sub hl [0, 1, 2, 3, 4, 5] rfl⟩
  rintro ⟨i, ls⟩ ⟨hi, hl⟩ ih
  have hi : i ≤ T := hi
  have hl : lv_has ls 7 [(6, .int (nI i)), (5, .int (xCell bs p0 (nI i))), (3, .long (xSet bs p0 i)), (0, .ref h), (1, .int p0), (2, .int (nI T))] := hl
  show W p l e _ s m _ below meth c s.heap [] _ _ _ (F0 m 15 ls [])
  refine lv_iload hx hb dX0_cellSet_15 (lv_at hl 0 rfl) ?_
  refine lv_iload_n hx hb dX0_cellSet_17 rfl (lv_at hl 5 rfl) ?_
  refine lv_icmp_ge (tgt := 46) hx hb dX0_cellSet_18 (by decide) (fun c_1 => ?_) (fun c_1 => ?_)
  · have hiT : i = T := by have z := (nI_leI (a := T) (b := i) (by omega) (by omega)).mp c_1; omega
    refine lv_lload_n hx hb dX0_cellSet_46 rfl (lv_at hl 2 rfl) ?_
    exact W.lret (v := (xSet bs p0 i)) hx hb hr (fun t ht hW => ⟨(xSet bs p0 i), rfl, by rw [hiT], ht⟩) (fun _ h => absurd h List.not_mem_nil) dX0_cellSet_47
  · have hlt : i < T := by rcases Nat.lt_or_ge i T with z | z; exact z; exact absurd (nI_le z (by omega)) c_1
    refine lv_lload_n hx hb dX0_cellSet_21 rfl (lv_at hl 2 rfl) ?_
    refine lv_lconst (v := 1) hx hb dX0_cellSet_22 (by decide) ?_
    refine lv_iload hx hb dX0_cellSet_23 (lv_at hl 1 rfl) ?_
    refine lv_lshl hx hb dX0_cellSet_25 rfl ?_
    refine lv_lor hx hb dX0_cellSet_26 ?_
    refine lv_lstore_n (lv' := [(3, .long ((xSet bs p0 i) ||| (1 <<< (Int32.toInt64 (xCell bs p0 (nI i)) &&& 63)))), (6, .int (nI i)), (5, .int (xCell bs p0 (nI i))), (0, .ref h), (1, .int p0), (2, .int (nI T))]) hx hb dX0_cellSet_27 rfl hl (by decide) rfl (fun ls hl => ?_)
    refine lv_iload hx hb dX0_cellSet_28 (lv_at hl 2 rfl) ?_
    refine lv_iload_n hx hb dX0_cellSet_30 rfl (lv_at hl 4 rfl) ?_
    refine vp_callSi (W.runS (As := [.int p0]) (rest := [.int (xCell bs p0 (nI i))]) ⟨hx, hb, hml, hown, hts⟩ (metX0_strideOf l p0) (va_cwS 1 hts (lw_S q112 q113 q14 q114) rfl rfl rfl (by decide +kernel) ⟨Nat.le_of_ble_eq_true rfl, Nat.le_of_ble_eq_true rfl⟩) ⟨ha_N_blind, fun U hU hW => ⟨rfl, trivial⟩⟩ rfl rfl hl.1 rfl (lv_room (Nat.le_of_ble_eq_true rfl)) dX0_cellSet_31 ⟨Nat.le_of_ble_eq_true rfl, Nat.le_of_ble_eq_true rfl⟩) (fun r_ hw => ?_)
    have hw : r_ = xSd p0 := hw
    subst hw
    refine lv_iadd hx hb dX0_cellSet_34 ?_
    refine lv_bipush (v := 63) hx hb dX0_cellSet_35 (by decide) ?_
    refine lv_iand hx hb dX0_cellSet_37 ?_
    refine lv_istore (lv' := [(5, .int (((xCell bs p0 (nI i)) + (xSd p0)) &&& 63)), (3, .long ((xSet bs p0 i) ||| (1 <<< (Int32.toInt64 (xCell bs p0 (nI i)) &&& 63)))), (6, .int (nI i)), (0, .ref h), (1, .int p0), (2, .int (nI T))]) hx hb dX0_cellSet_38 hl (by decide) rfl (fun ls hl => ?_)
    refine lv_iinc (v := nI (i + 1)) (lv' := [(6, .int (nI (i + 1))), (5, .int (((xCell bs p0 (nI i)) + (xSd p0)) &&& 63)), (3, .long ((xSet bs p0 i) ||| (1 <<< (Int32.toInt64 (xCell bs p0 (nI i)) &&& 63)))), (0, .ref h), (1, .int p0), (2, .int (nI T))]) hx hb dX0_cellSet_40 hl (k := 2) rfl (nI_1 i) (by decide) rfl (fun ls hl => ?_)
    refine lv_goto (tgt := 15) hx hb dX0_cellSet_43 (by decide) ?_
    exact ih (i + 1, ls) ⟨by omega, by show lv_has ls 7 [(6, .int (nI (i + 1))), (5, .int (xCell bs p0 (nI (i + 1)))), (3, .long (xSet bs p0 (i + 1))), (0, .ref h), (1, .int p0), (2, .int (nI T))]; rw [← xCell_s]; exact lv_sub hl [0, 1, 2, 3, 4, 5] rfl⟩ (by dsimp only; omega)
set_option maxHeartbeats 4000000 in
set_option maxRecDepth 100000 in
/-- ones -/
theorem metX0_ones (l : Launch) (p0 : Int64) : Met l yX0_ones (ws_ yX0_ones cX0_ones 4 (some .int)) ({ frames := 0, cells := 0, slots := 0, locals := 0 }) (ha_N [.long p0]) (vp_Si (fun r => r = xOnes p0)) 0 0 (fun _ => False) := by
  refine Met.ofW (cc := cX0_ones) (maxL := 4) (ret := (some .int)) (by decide) rfl ?_
  intro p e s m args below meth c s₁ B hml hv
  obtain ⟨rfl, -⟩ := hv
  have hx := B.exec
  have hb := B.bytes
  have hr := B.returns
  have hts := atoms_spec (ws := ws_ yX0_ones cX0_ones 4 (some .int)) B.pre
  have hts : ∀ w ∈ lw_all, w.before _ s = true := fun w h => hts w (List.mem_cons_of_mem _ h)
  have hown : s.vm.findClass RX0 = some m.cls := findClass_of_methodNamed B.named
  have hlocks := B.notSynchronized
  have hl := lv_entry ([.long p0]) (n := 4) (Nat.le_of_ble_eq_true rfl)
  rw [lg_entry_eq]
  generalize (lg_sl ([.long p0]) ++ List.replicate (4 - (lg_sl ([.long p0])).length) Slot.unset).toArray = ls at hl ⊢
  have hl : lv_has ls 4 [(0, .long p0)] := hl
  refine lv_lload_n hx hb dX0_ones_0 rfl (lv_at hl 0 rfl) ?_
  refine lv_lload_n hx hb dX0_ones_1 rfl (lv_at hl 0 rfl) ?_
  refine lv_iconst (v := 1) hx hb dX0_ones_2 (by decide) ?_
  refine lv_lushr hx hb dX0_ones_3 rfl ?_
  refine lv_ldc2 hx hb hown (hts _ q173) dX0_ones_4 ?_
  refine lv_land hx hb dX0_ones_7 ?_
  refine lv_lsub hx hb dX0_ones_8 ?_
  refine lv_topl (fun y1 ey1 => ?_)
  refine lv_lstore_n (lv' := [(2, .long y1), (0, .long p0)]) hx hb dX0_ones_9 rfl hl (by decide) rfl (fun ls hl => ?_)
  refine lv_lload_n hx hb dX0_ones_10 rfl (lv_at hl 0 rfl) ?_
  refine lv_ldc2 hx hb hown (hts _ q174) dX0_ones_11 ?_
  refine lv_land hx hb dX0_ones_14 ?_
  refine lv_lload_n hx hb dX0_ones_15 rfl (lv_at hl 0 rfl) ?_
  refine lv_iconst (v := 2) hx hb dX0_ones_16 (by decide) ?_
  refine lv_lushr hx hb dX0_ones_17 rfl ?_
  refine lv_ldc2 hx hb hown (hts _ q174) dX0_ones_18 ?_
  refine lv_land hx hb dX0_ones_21 ?_
  refine lv_ladd hx hb dX0_ones_22 ?_
  refine lv_topl (fun y2 ey2 => ?_)
  refine lv_lstore_n (lv' := [(2, .long y2), (0, .long p0)]) hx hb dX0_ones_23 rfl hl (by decide) rfl (fun ls hl => ?_)
  refine lv_lload_n hx hb dX0_ones_24 rfl (lv_at hl 0 rfl) ?_
  refine lv_lload_n hx hb dX0_ones_25 rfl (lv_at hl 0 rfl) ?_
  refine lv_iconst (v := 4) hx hb dX0_ones_26 (by decide) ?_
  refine lv_lushr hx hb dX0_ones_27 rfl ?_
  refine lv_ladd hx hb dX0_ones_28 ?_
  refine lv_ldc2 hx hb hown (hts _ q175) dX0_ones_29 ?_
  refine lv_land hx hb dX0_ones_32 ?_
  refine lv_topl (fun y3 ey3 => ?_)
  refine lv_lstore_n (lv' := [(2, .long y3), (0, .long p0)]) hx hb dX0_ones_33 rfl hl (by decide) rfl (fun ls hl => ?_)
  refine lv_lload_n hx hb dX0_ones_34 rfl (lv_at hl 0 rfl) ?_
  refine lv_ldc2 hx hb hown (hts _ q176) dX0_ones_35 ?_
  refine lv_lmul hx hb dX0_ones_38 ?_
  refine lv_bipush (v := 56) hx hb dX0_ones_39 (by decide) ?_
  refine lv_lushr hx hb dX0_ones_41 rfl ?_
  refine lv_l2i hx hb dX0_ones_42 rfl ?_
  exact W.iret (v := ((((y3 * 72340172838076673).toUInt64 >>> ((Int32.toInt64 56).toUInt64 &&& Int64.toUInt64 63)).toInt64).toInt32)) hx hb hr (fun t ht hW => ⟨((((y3 * 72340172838076673).toUInt64 >>> ((Int32.toInt64 56).toUInt64 &&& Int64.toUInt64 63)).toInt64).toInt32), rfl, by rw [ey3, ey2, ey1]; rfl, ht⟩) (fun _ h => absurd h List.not_mem_nil) dX0_ones_43
end
section
set_option maxHeartbeats 4000000 in
set_option maxRecDepth 100000 in
/-- spread -/
theorem metX0_spread (l : Launch) (dC : Nat → ClassId) (dI : Nat → Nat → Nat) (dA dZ : ClassId) (h : Nat) (q : Nat → Nat) (u : ha_U) (v : ha_V) (p0 : Int32) (p1 : Int32) : Met l yX0_spread (ws_ yX0_spread cX0_spread 5 (some .int)) ({ frames := 2, cells := 0, slots := 0, locals := 47 }) (ha_R dC dI [.ref h, .int p0, .int p1] (xwU dA dZ h q u v) (xT dA dZ)) (vp_Si (fun r => r = aSpread u p0 p1)) 0 0 (fun _ => False) := by
  obtain ⟨mem, bs, ops, tg, sr, sc, cnt, sm⟩ := u
  obtain ⟨la, lb, ur, uw, us⟩ := v
  refine Met.ofW (cc := cX0_spread) (maxL := 5) (ret := (some .int)) (by decide) rfl ?_
  intro p e s m args below meth c s₁ B hml hv
  obtain ⟨rfl, hP, hK⟩ := hv
  have hx := B.exec
  have hb := B.bytes
  have hr := B.returns
  have hts := atoms_spec (ws := ws_ yX0_spread cX0_spread 5 (some .int)) B.pre
  have hts : ∀ w ∈ lw_all, w.before _ s = true := fun w h => hts w (List.mem_cons_of_mem _ h)
  have hown : s.vm.findClass RX0 = some m.cls := findClass_of_methodNamed B.named
  have hlocks := B.notSynchronized
  have hP : va_P (dC, dI) vwCl (xw dA dZ h q mem bs ops tg sr sc la lb ur uw cnt us sm) s.heap := hP
  have hl := lv_entry ([.ref h, .int p0, .int p1]) (n := 5) (Nat.le_of_ble_eq_true rfl)
  rw [lg_entry_eq]
  generalize (lg_sl ([.ref h, .int p0, .int p1]) ++ List.replicate (5 - (lg_sl ([.ref h, .int p0, .int p1])).length) Slot.unset).toArray = ls at hl ⊢
  have hl : lv_has ls 5 [(0, .ref h), (1, .int p0), (2, .int p1)] := hl
  refine lv_iload_n hx hb dX0_spread_0 rfl (lv_at hl 1 rfl) ?_
  refine vp_callSi (W.runS (As := [.int p0]) (rest := []) ⟨hx, hb, hml, hown, hts⟩ (metX0_isRef l p0) (va_cwS 1 hts (lw_S q70 q71 q14 q72) rfl rfl rfl (by decide +kernel) ⟨Nat.le_of_ble_eq_true rfl, Nat.le_of_ble_eq_true rfl⟩) ⟨ha_N_blind, fun U hU hW => ⟨rfl, trivial⟩⟩ rfl rfl hl.1 rfl (lv_room (Nat.le_of_ble_eq_true rfl)) dX0_spread_1 ⟨Nat.le_of_ble_eq_true rfl, Nat.le_of_ble_eq_true rfl⟩) (fun r_ hw => ?_)
  have hb_1 : ¬ r_ = 0 ↔ xRef p0 := hw
  clear hw
  generalize r_ = b_1 at hb_1 ⊢
  refine lv_if_ne (tgt := 9) hx hb dX0_spread_4 (by decide) (fun c_2 => ?_) (fun c_2 => ?_)
  · have h2 := hb_1.mp c_2
    refine lv_iload_n hx hb dX0_spread_9 rfl (lv_at hl 2 rfl) ?_
    refine lv_if_lt (tgt := 19) hx hb dX0_spread_10 (by decide) (fun c_3 => ?_) (fun c_3 => ?_)
    · refine lv_bipush (v := (-2)) hx hb dX0_spread_19 (by decide) ?_
      exact W.iret (v := (-2)) hx hb hr (fun t ht hW => ⟨(-2), rfl, (aSp_2 (u := (mem, bs, ops, tg, sr, sc, cnt, sm)) h2 (Or.inl c_3)).symm, ht⟩) (fun _ h => absurd h List.not_mem_nil) dX0_spread_21
    · refine lv_iload_n hx hb dX0_spread_13 rfl (lv_at hl 2 rfl) ?_
      refine lv_bipush (v := 40) hx hb dX0_spread_14 (by decide) ?_
      refine lv_icmp_le (tgt := 22) hx hb dX0_spread_16 (by decide) (fun c_4 => ?_) (fun c_4 => ?_)
      · have ht2 : ¬ (p1 < 0 ∨ 40 < p1) := fun z => z.elim c_3 (fa_of_le_not c_4)
        obtain ⟨T, hT, eT⟩ := ha_t40 c_3 (fa_of_le_not c_4)
        subst eT
        refine lv_aload_n hx hb dX0_spread_22 rfl (lv_at hl 0 rfl) ?_
        refine lv_iload_n hx hb dX0_spread_23 rfl (lv_at hl 1 rfl) ?_
        refine lv_iload_n hx hb dX0_spread_24 rfl (lv_at hl 2 rfl) ?_
        refine vp_callSl (W.runV (As := [.int p0, .int (nI T)]) (rest := []) ⟨hx, hb, hml, hown, hts⟩ (metX0_cellSet l dC dI dA dZ h q mem bs ops tg sr sc la lb ur uw cnt us sm p0 T hT) (cwV 2 hts (lw_V q166 q168 qs8 q14 q169) rfl rfl rfl (by decide +kernel) ⟨Nat.le_of_ble_eq_true rfl, Nat.le_of_ble_eq_true rfl⟩) ⟨ha_R_blind, va_recv hK hP (ci := 0) (q0 := 0) rfl rfl, fun U hU hW => ⟨rfl, by rw [hU]; exact hP, va_K.moved hW.alike hK⟩⟩ rfl rfl hl.1 rfl (lv_room (Nat.le_of_ble_eq_true rfl)) dX0_spread_25 ⟨Nat.le_of_ble_eq_true rfl, Nat.le_of_ble_eq_true rfl⟩) (fun r_ hw => ?_)
        have hw : r_ = xSet bs p0 T := hw
        subst hw
        refine lv_lstore_n (lv' := [(3, .long (xSet bs p0 T)), (0, .ref h), (1, .int p0), (2, .int (nI T))]) hx hb dX0_spread_28 rfl hl (by decide) rfl (fun ls hl => ?_)
        refine lv_lload_n hx hb dX0_spread_29 rfl (lv_at hl 0 rfl) ?_
        refine vp_callSi (W.runS (As := [.long (xSet bs p0 T)]) (rest := []) ⟨hx, hb, hml, hown, hts⟩ (metX0_ones l (xSet bs p0 T)) (va_cwS 1 hts (lw_S q170 q171 q14 q172) rfl rfl rfl (by decide +kernel) ⟨Nat.le_of_ble_eq_true rfl, Nat.le_of_ble_eq_true rfl⟩) ⟨ha_N_blind, fun U hU hW => ⟨rfl, trivial⟩⟩ rfl rfl hl.1 rfl (lv_room (Nat.le_of_ble_eq_true rfl)) dX0_spread_30 ⟨Nat.le_of_ble_eq_true rfl, Nat.le_of_ble_eq_true rfl⟩) (fun r_ hw => ?_)
        have hw : r_ = xOnes (xSet bs p0 T) := hw
        subst hw
        exact W.iret (v := (xOnes (xSet bs p0 T))) hx hb hr (fun t ht hW => ⟨(xOnes (xSet bs p0 T)), rfl, by rw [aSp_3 (u := (mem, bs, ops, tg, sr, sc, cnt, sm)) h2 ht2, nI_clamp (by omega)]; exact xOnes_set _ _ _, ht⟩) (fun _ h => absurd h List.not_mem_nil) dX0_spread_33
      · refine lv_bipush (v := (-2)) hx hb dX0_spread_19 (by decide) ?_
        exact W.iret (v := (-2)) hx hb hr (fun t ht hW => ⟨(-2), rfl, (aSp_2 (u := (mem, bs, ops, tg, sr, sc, cnt, sm)) h2 (Or.inr (fa_of_nle c_4))).symm, ht⟩) (fun _ h => absurd h List.not_mem_nil) dX0_spread_21
  · have h2 : ¬ _ := fun z => hb_1.mpr z c_2
    refine lv_iconst (v := (-1)) hx hb dX0_spread_7 (by decide) ?_
    exact W.iret (v := (-1)) hx hb hr (fun t ht hW => ⟨(-1), rfl, (aSp_1 (u := (mem, bs, ops, tg, sr, sc, cnt, sm)) h2).symm, ht⟩) (fun _ h => absurd h List.not_mem_nil) dX0_spread_8
set_option maxHeartbeats 4000000 in
set_option maxRecDepth 100000 in
/-- meet -/
theorem metX0_meet (l : Launch) (dC : Nat → ClassId) (dI : Nat → Nat → Nat) (dA dZ : ClassId) (h : Nat) (q : Nat → Nat) (u : ha_U) (v : ha_V) (p0 : Int32) (p1 : Int32) (p2 : Int32) : Met l yX0_meet (ws_ yX0_meet cX0_meet 4 (some .int)) ({ frames := 2, cells := 0, slots := 0, locals := 47 }) (ha_R dC dI [.ref h, .int p0, .int p1, .int p2] (xwU dA dZ h q u v) (xT dA dZ)) (vp_Si (fun r => r = aMeet u p0 p1 p2)) 0 0 (fun _ => False) := by
  obtain ⟨mem, bs, ops, tg, sr, sc, cnt, sm⟩ := u
  obtain ⟨la, lb, ur, uw, us⟩ := v
  refine Met.ofW (cc := cX0_meet) (maxL := 4) (ret := (some .int)) (by decide) rfl ?_
  intro p e s m args below meth c s₁ B hml hv
  obtain ⟨rfl, hP, hK⟩ := hv
  have hx := B.exec
  have hb := B.bytes
  have hr := B.returns
  have hts := atoms_spec (ws := ws_ yX0_meet cX0_meet 4 (some .int)) B.pre
  have hts : ∀ w ∈ lw_all, w.before _ s = true := fun w h => hts w (List.mem_cons_of_mem _ h)
  have hown : s.vm.findClass RX0 = some m.cls := findClass_of_methodNamed B.named
  have hlocks := B.notSynchronized
  have hP : va_P (dC, dI) vwCl (xw dA dZ h q mem bs ops tg sr sc la lb ur uw cnt us sm) s.heap := hP
  have hl := lv_entry ([.ref h, .int p0, .int p1, .int p2]) (n := 4) (Nat.le_of_ble_eq_true rfl)
  rw [lg_entry_eq]
  generalize (lg_sl ([.ref h, .int p0, .int p1, .int p2]) ++ List.replicate (4 - (lg_sl ([.ref h, .int p0, .int p1, .int p2])).length) Slot.unset).toArray = ls at hl ⊢
  have hl : lv_has ls 4 [(0, .ref h), (1, .int p0), (2, .int p1), (3, .int p2)] := hl
  refine lv_iload_n hx hb dX0_meet_0 rfl (lv_at hl 1 rfl) ?_
  refine vp_callSi (W.runS (As := [.int p0]) (rest := []) ⟨hx, hb, hml, hown, hts⟩ (metX0_isRef l p0) (va_cwS 1 hts (lw_S q70 q71 q14 q72) rfl rfl rfl (by decide +kernel) ⟨Nat.le_of_ble_eq_true rfl, Nat.le_of_ble_eq_true rfl⟩) ⟨ha_N_blind, fun U hU hW => ⟨rfl, trivial⟩⟩ rfl rfl hl.1 rfl (lv_room (Nat.le_of_ble_eq_true rfl)) dX0_meet_1 ⟨Nat.le_of_ble_eq_true rfl, Nat.le_of_ble_eq_true rfl⟩) (fun r_ hw => ?_)
  have hb_1 : ¬ r_ = 0 ↔ xRef p0 := hw
  clear hw
  generalize r_ = b_1 at hb_1 ⊢
  refine lv_if_eq (tgt := 14) hx hb dX0_meet_4 (by decide) (fun c_2 => ?_) (fun c_2 => ?_)
  · have h2 : ¬ _ := fun z => hb_1.mpr z c_2
    refine lv_iconst (v := (-1)) hx hb dX0_meet_14 (by decide) ?_
    exact W.iret (v := (-1)) hx hb hr (fun t ht hW => ⟨(-1), rfl, (aMe_1 (u := (mem, bs, ops, tg, sr, sc, cnt, sm)) (Or.inl h2)).symm, ht⟩) (fun _ h => absurd h List.not_mem_nil) dX0_meet_15
  · have h2 := hb_1.mp c_2
    refine lv_iload_n hx hb dX0_meet_7 rfl (lv_at hl 2 rfl) ?_
    refine vp_callSi (W.runS (As := [.int p1]) (rest := []) ⟨hx, hb, hml, hown, hts⟩ (metX0_isRef l p1) (va_cwS 1 hts (lw_S q70 q71 q14 q72) rfl rfl rfl (by decide +kernel) ⟨Nat.le_of_ble_eq_true rfl, Nat.le_of_ble_eq_true rfl⟩) ⟨ha_N_blind, fun U hU hW => ⟨rfl, trivial⟩⟩ rfl rfl hl.1 rfl (lv_room (Nat.le_of_ble_eq_true rfl)) dX0_meet_8 ⟨Nat.le_of_ble_eq_true rfl, Nat.le_of_ble_eq_true rfl⟩) (fun r_ hw => ?_)
    have hb_3 : ¬ r_ = 0 ↔ xRef p1 := hw
    clear hw
    generalize r_ = b_3 at hb_3 ⊢
    refine lv_if_ne (tgt := 16) hx hb dX0_meet_11 (by decide) (fun c_4 => ?_) (fun c_4 => ?_)
    · have h3 := hb_3.mp c_4
      have hr2 : ¬ (¬ xRef p0 ∨ ¬ xRef p1) := fun z => z.elim (fun y => y h2) (fun y => y h3)
      refine lv_iload_n hx hb dX0_meet_16 rfl (lv_at hl 3 rfl) ?_
      refine lv_if_lt (tgt := 26) hx hb dX0_meet_17 (by decide) (fun c_5 => ?_) (fun c_5 => ?_)
      · refine lv_bipush (v := (-2)) hx hb dX0_meet_26 (by decide) ?_
        exact W.iret (v := (-2)) hx hb hr (fun t ht hW => ⟨(-2), rfl, (aMe_2 (u := (mem, bs, ops, tg, sr, sc, cnt, sm)) hr2 (Or.inl c_5)).symm, ht⟩) (fun _ h => absurd h List.not_mem_nil) dX0_meet_28
      · refine lv_iload_n hx hb dX0_meet_20 rfl (lv_at hl 3 rfl) ?_
        refine lv_bipush (v := 40) hx hb dX0_meet_21 (by decide) ?_
        refine lv_icmp_le (tgt := 29) hx hb dX0_meet_23 (by decide) (fun c_6 => ?_) (fun c_6 => ?_)
        · have ht2 : ¬ (p2 < 0 ∨ 40 < p2) := fun z => z.elim c_5 (fa_of_le_not c_6)
          obtain ⟨T, hT, eT⟩ := ha_t40 c_5 (fa_of_le_not c_6)
          subst eT
          refine lv_aload_n hx hb dX0_meet_29 rfl (lv_at hl 0 rfl) ?_
          refine lv_iload_n hx hb dX0_meet_30 rfl (lv_at hl 1 rfl) ?_
          refine lv_iload_n hx hb dX0_meet_31 rfl (lv_at hl 3 rfl) ?_
          refine vp_callSl (W.runV (As := [.int p0, .int (nI T)]) (rest := []) ⟨hx, hb, hml, hown, hts⟩ (metX0_cellSet l dC dI dA dZ h q mem bs ops tg sr sc la lb ur uw cnt us sm p0 T hT) (cwV 2 hts (lw_V q166 q168 qs8 q14 q169) rfl rfl rfl (by decide +kernel) ⟨Nat.le_of_ble_eq_true rfl, Nat.le_of_ble_eq_true rfl⟩) ⟨ha_R_blind, va_recv hK hP (ci := 0) (q0 := 0) rfl rfl, fun U hU hW => ⟨rfl, by rw [hU]; exact hP, va_K.moved hW.alike hK⟩⟩ rfl rfl hl.1 rfl (lv_room (Nat.le_of_ble_eq_true rfl)) dX0_meet_32 ⟨Nat.le_of_ble_eq_true rfl, Nat.le_of_ble_eq_true rfl⟩) (fun r_ hw => ?_)
          have hw : r_ = xSet bs p0 T := hw
          subst hw
          refine lv_aload_n hx hb dX0_meet_35 rfl (lv_at hl 0 rfl) ?_
          refine lv_iload_n hx hb dX0_meet_36 rfl (lv_at hl 2 rfl) ?_
          refine lv_iload_n hx hb dX0_meet_37 rfl (lv_at hl 3 rfl) ?_
          refine vp_callSl (W.runV (As := [.int p1, .int (nI T)]) (rest := [.long (xSet bs p0 T)]) ⟨hx, hb, hml, hown, hts⟩ (metX0_cellSet l dC dI dA dZ h q mem bs ops tg sr sc la lb ur uw cnt us sm p1 T hT) (cwV 2 hts (lw_V q166 q168 qs8 q14 q169) rfl rfl rfl (by decide +kernel) ⟨Nat.le_of_ble_eq_true rfl, Nat.le_of_ble_eq_true rfl⟩) ⟨ha_R_blind, va_recv hK hP (ci := 0) (q0 := 0) rfl rfl, fun U hU hW => ⟨rfl, by rw [hU]; exact hP, va_K.moved hW.alike hK⟩⟩ rfl rfl hl.1 rfl (lv_room (Nat.le_of_ble_eq_true rfl)) dX0_meet_38 ⟨Nat.le_of_ble_eq_true rfl, Nat.le_of_ble_eq_true rfl⟩) (fun r_ hw => ?_)
          have hw : r_ = xSet bs p1 T := hw
          subst hw
          refine lv_land hx hb dX0_meet_41 ?_
          refine lv_lconst (v := 0) hx hb dX0_meet_42 (by decide) ?_
          refine W.lcmp hx hb dX0_meet_43 ?_
          refine lv_if_eq (tgt := 51) hx hb dX0_meet_44 (by decide) (fun c_7 => ?_) (fun c_7 => ?_)
          · refine lv_iconst (v := 0) hx hb dX0_meet_51 (by decide) ?_
            exact W.iret (v := 0) hx hb hr (fun t ht hW => ⟨0, rfl, (aMe_3 (u := (mem, bs, ops, tg, sr, sc, cnt, sm)) hr2 ht2 (by rw [nI_clamp (by omega)]; exact (xSet_meet _ _ _ _).mp ((ha_cmp0 _).mp c_7))).symm, ht⟩) (fun _ h => absurd h List.not_mem_nil) dX0_meet_52
          · refine lv_iconst (v := 1) hx hb dX0_meet_47 (by decide) ?_
            refine lv_goto (tgt := 52) hx hb dX0_meet_48 (by decide) ?_
            exact W.iret (v := 1) hx hb hr (fun t ht hW => ⟨1, rfl, (aMe_4 (u := (mem, bs, ops, tg, sr, sc, cnt, sm)) hr2 ht2 (by rw [nI_clamp (by omega)]; exact fun z => c_7 ((ha_cmp0 _).mpr ((xSet_meet _ _ _ _).mpr z)))).symm, ht⟩) (fun _ h => absurd h List.not_mem_nil) dX0_meet_52
        · refine lv_bipush (v := (-2)) hx hb dX0_meet_26 (by decide) ?_
          exact W.iret (v := (-2)) hx hb hr (fun t ht hW => ⟨(-2), rfl, (aMe_2 (u := (mem, bs, ops, tg, sr, sc, cnt, sm)) hr2 (Or.inr (fa_of_nle c_6))).symm, ht⟩) (fun _ h => absurd h List.not_mem_nil) dX0_meet_28
    · have h3 : ¬ _ := fun z => hb_3.mpr z c_4
      refine lv_iconst (v := (-1)) hx hb dX0_meet_14 (by decide) ?_
      exact W.iret (v := (-1)) hx hb hr (fun t ht hW => ⟨(-1), rfl, (aMe_1 (u := (mem, bs, ops, tg, sr, sc, cnt, sm)) (Or.inr h3)).symm, ht⟩) (fun _ h => absurd h List.not_mem_nil) dX0_meet_15
end
section
set_option maxHeartbeats 4000000 in
set_option maxRecDepth 100000 in
/-- use: one use more in the list -/
theorem metX0_use (l : Launch) (dC : Nat → ClassId) (dI : Nat → Nat → Nat) (dA dZ : ClassId) (h : Nat) (q : Nat → Nat) (mem bs ops tg sr sc la lb ur uw : ha_F) (cnt sm : Int32) (sz k : Nat) (hk : k < 15) (p0 p1 : Int32) (hp1 : vp_nar .boolean p1 = p1) : Met l yX0_use (ws_ yX0_use cX0_use 3 none) ({ frames := 0, cells := 0, slots := 0, locals := 0 }) (ha_M dC dI [.ref h, .int p0, .int p1] sz (xw dA dZ h q mem bs ops tg sr sc la lb ur uw cnt (nI k) sm) (xT dA dZ)) (va_Qv (S := Unit) (fun (_ : Unit) => True) (fun _ t => ha_B dC dI (va_A (xw dA dZ h q mem bs ops tg sr sc la lb ur uw cnt (nI k) sm) sz) (xw dA dZ h q mem bs ops tg sr sc la lb (upd ur k p0) (upd uw k p1) cnt (nI (k + 1)) sm) (xT dA dZ) t) (va_A (xw dA dZ h q mem bs ops tg sr sc la lb ur uw cnt (nI k) sm) sz)) 0 0 (va_A (xw dA dZ h q mem bs ops tg sr sc la lb ur uw cnt (nI k) sm) sz) := by
  refine Met.ofW (cc := cX0_use) (maxL := 3) (ret := none) (by decide) rfl ?_
  intro p e s m args below meth c s₁ B hml hv
  obtain ⟨rfl, hsz, hP, hK, hD0⟩ := hv
  have hx := B.exec
  have hb := B.bytes
  have hr := B.returns
  have hts := atoms_spec (ws := ws_ yX0_use cX0_use 3 none) B.pre
  have hts : ∀ w ∈ lw_all, w.before _ s = true := fun w h => hts w (List.mem_cons_of_mem _ h)
  have hown : s.vm.findClass RX0 = some m.cls := findClass_of_methodNamed B.named
  have hlocks := B.notSynchronized
  subst hsz
  have hD := hD0.self (sz := s.heap.size)
  generalize hAe : va_A (xw dA dZ h q mem bs ops tg sr sc la lb ur uw cnt (nI k) sm) s.heap.size = A at hD ⊢
  have hA : ∀ q : Nat, s.heap.size ≤ q → A q := fun q h => by rw [← hAe]; exact Or.inr h
  have hS : va_S A s.heap s.heap [] := va_S.rf
  have hD : va_D A (xw dA dZ h q mem bs ops tg sr sc la lb ur uw cnt (nI k) sm) := hD
  have hP : va_P (dC, dI) vwCl (xw dA dZ h q mem bs ops tg sr sc la lb ur uw cnt (nI k) sm) s.heap := hP
  have hl := lv_entry ([.ref h, .int p0, .int p1]) (n := 3) (Nat.le_of_ble_eq_true rfl)
  rw [lg_entry_eq]
  generalize (lg_sl ([.ref h, .int p0, .int p1]) ++ List.replicate (3 - (lg_sl ([.ref h, .int p0, .int p1])).length) Slot.unset).toArray = ls at hl ⊢
  have hl : lv_has ls 3 [(0, .ref h), (1, .int p0), (2, .int p1)] := hl
  refine lv_aload_n hx hb dX0_use_0 rfl (lv_at hl 0 rfl) ?_
  refine va_get (D := (dC, dI)) (ci := 0) (v := .ref (q 8)) (C := RX0) (T := TX0) (N := 13) hx hb hts in_X0 hown hK hP 0 rfl rfl 8 (by decide) (hts _ q32) (fun _ h9 => h9) rfl dX0_use_1 ?_
  refine lv_aload_n hx hb dX0_use_4 rfl (lv_at hl 0 rfl) ?_
  refine va_get (D := (dC, dI)) (ci := 0) (v := .int (nI k)) (C := RX0) (T := TX0) (N := 13) hx hb hts in_X0 hown hK hP 0 rfl rfl 11 (by decide) (hts _ q35) (fun _ h9 => h9) rfl dX0_use_5 ?_
  refine lv_iload_n hx hb dX0_use_8 rfl (lv_at hl 1 rfl) ?_
  refine ha_st hx hb hK hP hD hS 9 0 rfl rfl k (rfl) (hk) (by decide) dX0_use_9 (fun H locs hP hD hS => ?_)
  have hP : va_P (dC, dI) vwCl (xw dA dZ h q mem bs ops tg sr sc la lb (upd ur k p0) uw cnt (nI k) sm) H := hP
  have hD : va_D A (xw dA dZ h q mem bs ops tg sr sc la lb (upd ur k p0) uw cnt (nI k) sm) := hD
  refine lv_aload_n hx hb dX0_use_10 rfl (lv_at hl 0 rfl) ?_
  refine va_get (D := (dC, dI)) (ci := 0) (v := .ref (q 9)) (C := RX0) (T := TX0) (N := 13) hx hb hts in_X0 hown hK hP 0 rfl rfl 9 (by decide) (hts _ q33) (fun _ h9 => h9) rfl dX0_use_11 ?_
  refine lv_aload_n hx hb dX0_use_14 rfl (lv_at hl 0 rfl) ?_
  refine va_get (D := (dC, dI)) (ci := 0) (v := .int (nI k)) (C := RX0) (T := TX0) (N := 13) hx hb hts in_X0 hown hK hP 0 rfl rfl 11 (by decide) (hts _ q35) (fun _ h9 => h9) rfl dX0_use_15 ?_
  refine lv_iload_n hx hb dX0_use_18 rfl (lv_at hl 2 rfl) ?_
  refine ha_zst hx hb hK hP hD hS 10 1 rfl rfl k (rfl) (hk) (by decide) hp1 dX0_use_19 (fun H locs hP hD hS => ?_)
  have hP : va_P (dC, dI) vwCl (xw dA dZ h q mem bs ops tg sr sc la lb (upd ur k p0) (upd uw k p1) cnt (nI k) sm) H := hP
  have hD : va_D A (xw dA dZ h q mem bs ops tg sr sc la lb (upd ur k p0) (upd uw k p1) cnt (nI k) sm) := hD
  refine lv_aload_n hx hb dX0_use_20 rfl (lv_at hl 0 rfl) ?_
  refine lv_dup hx hb dX0_use_21 rfl ?_
  refine va_get (D := (dC, dI)) (ci := 0) (v := .int (nI k)) (C := RX0) (T := TX0) (N := 13) hx hb hts in_X0 hown hK hP 0 rfl rfl 11 (by decide) (hts _ q35) (fun _ h9 => h9) rfl dX0_use_22 ?_
  refine lv_iconst (v := 1) hx hb dX0_use_25 (by decide) ?_
  refine lv_iadd hx hb dX0_use_26 ?_
  rw [nI_1 k]
  refine va_put (D := (dC, dI)) (ci := 0) (v := .int (nI (k + 1))) (ty := .int) (C := RX0) (T := TX0) (N := 13) hx hb hts in_X0 tyX0 tyX0_ok nmX0 hown hK hP hD hS 0 rfl rfl 11 (by decide) (hts _ q35) (fun _ h9 => h9) rfl (by decide +kernel) rfl rfl (Nat.le_of_ble_eq_true rfl) dX0_use_27 (fun H locs hP hD hS => ?_)
  have hP : va_P (dC, dI) vwCl (xw dA dZ h q mem bs ops tg sr sc la lb (upd ur k p0) (upd uw k p1) cnt (nI (k + 1)) sm) H := hP
  have hD : va_D A (xw dA dZ h q mem bs ops tg sr sc la lb (upd ur k p0) (upd uw k p1) cnt (nI (k + 1)) sm) := hD
  exact W.vret hx hb hr (fun t ht hW => ⟨⟨(), rfl, trivial, by rw [ht]; exact hP, va_K.moved hW.alike hK, hD⟩, hS.F ht⟩) hS.2.2 dX0_use_30
set_option maxHeartbeats 4000000 in
set_option maxRecDepth 100000 in
/-- listUses: all uses, in order -/
theorem metX0_listUses (l : Launch) (dC : Nat → ClassId) (dI : Nat → Nat → Nat) (dA dZ : ClassId) (h : Nat) (q : Nat → Nat) (mem bs ops tg sr sc la lb ur uw : ha_F) (us sm : Int32) (sz n : Nat) (hn : n ≤ 5) : Met l yX0_listUses (ws_ yX0_listUses cX0_listUses 2 none) ({ frames := 1, cells := 0, slots := 0, locals := 22 }) (ha_M dC dI [.ref h] sz (xw dA dZ h q mem bs ops tg sr sc la lb ur uw (nI n) us sm) (xT dA dZ)) (va_Qv (S := ha_F × ha_F) (fun (y : ha_F × ha_F) => LU ops tg sr sc n y.1 y.2) (fun y t => ha_B dC dI (va_A (xw dA dZ h q mem bs ops tg sr sc la lb ur uw (nI n) us sm) sz) (xw dA dZ h q mem bs ops tg sr sc la lb y.1 y.2 (nI n) (nI (uOff ops n)) sm) (xT dA dZ) t) (va_A (xw dA dZ h q mem bs ops tg sr sc la lb ur uw (nI n) us sm) sz)) 0 0 (va_A (xw dA dZ h q mem bs ops tg sr sc la lb ur uw (nI n) us sm) sz) := by
  refine Met.ofW (cc := cX0_listUses) (maxL := 2) (ret := none) (by decide) rfl ?_
  intro p e s m args below meth c s₁ B hml hv
  obtain ⟨rfl, hsz, hP, hK, hD0⟩ := hv
  have hx := B.exec
  have hb := B.bytes
  have hr := B.returns
  have hts := atoms_spec (ws := ws_ yX0_listUses cX0_listUses 2 none) B.pre
  have hts : ∀ w ∈ lw_all, w.before _ s = true := fun w h => hts w (List.mem_cons_of_mem _ h)
  have hown : s.vm.findClass RX0 = some m.cls := findClass_of_methodNamed B.named
  have hlocks := B.notSynchronized
  subst hsz
  have hD := hD0.self (sz := s.heap.size)
  generalize hAe : va_A (xw dA dZ h q mem bs ops tg sr sc la lb ur uw (nI n) us sm) s.heap.size = A at hD ⊢
  have hA : ∀ q : Nat, s.heap.size ≤ q → A q := fun q h => by rw [← hAe]; exact Or.inr h
  have hS : va_S A s.heap s.heap [] := va_S.rf
  have hD : va_D A (xw dA dZ h q mem bs ops tg sr sc la lb ur uw (nI n) us sm) := hD
  have hP : va_P (dC, dI) vwCl (xw dA dZ h q mem bs ops tg sr sc la lb ur uw (nI n) us sm) s.heap := hP
  have hl := lv_entry ([.ref h]) (n := 2) (Nat.le_of_ble_eq_true rfl)
  rw [lg_entry_eq]
  generalize (lg_sl ([.ref h]) ++ List.replicate (2 - (lg_sl ([.ref h])).length) Slot.unset).toArray = ls at hl ⊢
  have hl : lv_has ls 2 [(0, .ref h)] := hl
  refine lv_aload_n hx hb dX0_listUses_0 rfl (lv_at hl 0 rfl) ?_
  refine lv_iconst (v := 0) hx hb dX0_listUses_1 (by decide) ?_
  refine va_put (D := (dC, dI)) (ci := 0) (v := .int 0) (ty := .int) (C := RX0) (T := TX0) (N := 13) hx hb hts in_X0 tyX0 tyX0_ok nmX0 hown hK hP hD hS 0 rfl rfl 11 (by decide) (hts _ q35) (fun _ h9 => h9) rfl (by decide +kernel) rfl rfl (Nat.le_of_ble_eq_true rfl) dX0_listUses_2 (fun H locs hP hD hS => ?_)
  have hP : va_P (dC, dI) vwCl (xw dA dZ h q mem bs ops tg sr sc la lb ur uw (nI n) 0 sm) H := hP
  have hD : va_D A (xw dA dZ h q mem bs ops tg sr sc la lb ur uw (nI n) 0 sm) := hD
  refine lv_iconst (v := 0) hx hb dX0_listUses_5 (by decide) ?_
  refine lv_istore_n (lv' := [(1, .int 0), (0, .ref h)]) hx hb dX0_listUses_6 rfl hl (by decide) rfl (fun ls hl => ?_)
  refine ha_loop (σ := Nat × ha_F × ha_F × Heap × List Loc × Array Slot) (fun x => n - x.1) (fun x => (x.1 ≤ n) ∧ (LU ops tg sr sc (x.1) x.2.1 x.2.2.1) ∧ (va_P (dC, dI) vwCl (xw dA dZ h q mem bs ops tg sr sc la lb x.2.1 x.2.2.1 (nI n) (nI (uOff ops (x.1))) sm) x.2.2.2.1) ∧ (va_D A (xw dA dZ h q mem bs ops tg sr sc la lb x.2.1 x.2.2.1 (nI n) (nI (uOff ops (x.1))) sm)) ∧ (va_S A s.heap x.2.2.2.1 x.2.2.2.2.1) ∧ (lv_has x.2.2.2.2.2 2 [(1, .int (nI (x.1))), (0, .ref h)])) (fun x => x.2.2.2.1) (fun x => x.2.2.2.2.1) (fun x => F0 m 7 x.2.2.2.2.2 []) ?_ (0, ur, uw, H, locs, ls) ⟨Nat.zero_le _, fun k hk => absurd hk (Nat.not_lt_zero k), hP, hD, hS, lv_sub hl [0, 1] rfl⟩
  rintro ⟨i, fr, fw, H, locs, ls⟩ ⟨hi, hL, hP, hD, hS, hl⟩ ih
  have hi : i ≤ n := hi
  have hL : LU ops tg sr sc i fr fw := hL
  have hP : va_P (dC, dI) vwCl (xw dA dZ h q mem bs ops tg sr sc la lb fr fw (nI n) (nI (uOff ops i)) sm) H := hP
  have hD : va_D A (xw dA dZ h q mem bs ops tg sr sc la lb fr fw (nI n) (nI (uOff ops i)) sm) := hD
  have hS : va_S A s.heap H locs := hS
  have hl : lv_has ls 2 [(1, .int (nI i)), (0, .ref h)] := hl
  show W p l e _ s m _ below meth c H locs _ _ _ (F0 m 7 ls [])
  refine lv_iload_n hx hb dX0_listUses_7 rfl (lv_at hl 0 rfl) ?_
  refine lv_aload_n hx hb dX0_listUses_8 rfl (lv_at hl 1 rfl) ?_
  refine va_get (D := (dC, dI)) (ci := 0) (v := .int (nI n)) (C := RX0) (T := TX0) (N := 13) hx hb hts in_X0 hown hK hP 0 rfl rfl 10 (by decide) (hts _ q34) (fun _ h9 => h9) rfl dX0_listUses_9 ?_
  refine lv_icmp_ge (tgt := 88) hx hb dX0_listUses_12 (by decide) (fun c_1 => ?_) (fun c_1 => ?_)
  · have hin : i = n := by have z := (nI_leI (a := n) (b := i) (by omega) (by omega)).mp c_1; omega
    subst hin
    exact W.vret hx hb hr (fun t ht hW => ⟨⟨(fr, fw), rfl, hL, by rw [ht]; exact hP, va_K.moved hW.alike hK, hD⟩, hS.F ht⟩) hS.2.2 dX0_listUses_88
  · have hlt : i < n := by rcases Nat.lt_or_ge i n with z | z; exact z; exact absurd (nI_le z (by omega)) c_1
    have hbd : uOff ops i ≤ 12 := by have := uOff_le ops i; omega
    have hbA := uA_le ops i
    have hbB := uB_le ops i
    refine ha_joinH (α := ha_F × ha_F × Heap × List Loc) (P := fun x => (LU ops tg sr sc i x.1 x.2.1) ∧ (¬ ops i = 6 → x.1 (uOff ops i) = tg i ∧ x.2.1 (uOff ops i) = 1) ∧ (va_P (dC, dI) vwCl (xw dA dZ h q mem bs ops tg sr sc la lb x.1 x.2.1 (nI n) (nI (uOff ops i + uA ops i)) sm) x.2.2.1) ∧ (va_D A (xw dA dZ h q mem bs ops tg sr sc la lb x.1 x.2.1 (nI n) (nI (uOff ops i + uA ops i)) sm)) ∧ (va_S A s.heap x.2.2.1 x.2.2.2)) (Hh := fun x => x.2.2.1) (Ll := fun x => x.2.2.2) (g := fun _ => F0 m 37 ls []) ?_ (fun K => ?_)
    · rintro ⟨fr, fw, H, locs⟩ ⟨hL, hA1, hP, hD, hS⟩
      have hL : LU ops tg sr sc i fr fw := hL
      have hA1 : ¬ ops i = 6 → fr (uOff ops i) = tg i ∧ fw (uOff ops i) = 1 := hA1
      have hP : va_P (dC, dI) vwCl (xw dA dZ h q mem bs ops tg sr sc la lb fr fw (nI n) (nI (uOff ops i + uA ops i)) sm) H := hP
      have hD : va_D A (xw dA dZ h q mem bs ops tg sr sc la lb fr fw (nI n) (nI (uOff ops i + uA ops i)) sm) := hD
      have hS : va_S A s.heap H locs := hS
      show W p l e _ s m _ below meth c H locs _ _ _ (F0 m 37 ls [])
      refine ha_joinH (α := ha_F × ha_F × Heap × List Loc) (P := fun x => (LU ops tg sr sc i x.1 x.2.1) ∧ (¬ ops i = 6 → x.1 (uOff ops i) = tg i ∧ x.2.1 (uOff ops i) = 1) ∧ (¬ ops i = 7 → x.1 (uOff ops i + uA ops i) = sr i) ∧ (va_P (dC, dI) vwCl (xw dA dZ h q mem bs ops tg sr sc la lb x.1 x.2.1 (nI n) (nI (uOff ops i + uA ops i + uB ops i)) sm) x.2.2.1) ∧ (va_D A (xw dA dZ h q mem bs ops tg sr sc la lb x.1 x.2.1 (nI n) (nI (uOff ops i + uA ops i + uB ops i)) sm)) ∧ (va_S A s.heap x.2.2.1 x.2.2.2)) (Hh := fun x => x.2.2.1) (Ll := fun x => x.2.2.2) (g := fun _ => F0 m 59 ls []) ?_ (fun K => ?_)
      · rintro ⟨fr, fw, H, locs⟩ ⟨hL, hA1, hB1, hP, hD, hS⟩
        have hL : LU ops tg sr sc i fr fw := hL
        have hA1 : ¬ ops i = 6 → fr (uOff ops i) = tg i ∧ fw (uOff ops i) = 1 := hA1
        have hB1 : ¬ ops i = 7 → fr (uOff ops i + uA ops i) = sr i := hB1
        have hP : va_P (dC, dI) vwCl (xw dA dZ h q mem bs ops tg sr sc la lb fr fw (nI n) (nI (uOff ops i + uA ops i + uB ops i)) sm) H := hP
        have hD : va_D A (xw dA dZ h q mem bs ops tg sr sc la lb fr fw (nI n) (nI (uOff ops i + uA ops i + uB ops i)) sm) := hD
        have hS : va_S A s.heap H locs := hS
        show W p l e _ s m _ below meth c H locs _ _ _ (F0 m 59 ls [])
        refine ha_joinH (α := ha_F × ha_F × Heap × List Loc) (P := fun x => (LU ops tg sr sc i x.1 x.2.1) ∧ (¬ ops i = 6 → x.1 (uOff ops i) = tg i ∧ x.2.1 (uOff ops i) = 1) ∧ (¬ ops i = 7 → x.1 (uOff ops i + uA ops i) = sr i) ∧ (xTwo (ops i) → x.1 (uOff ops i + uA ops i + uB ops i) = sc i) ∧ (va_P (dC, dI) vwCl (xw dA dZ h q mem bs ops tg sr sc la lb x.1 x.2.1 (nI n) (nI (uOff ops (i + 1))) sm) x.2.2.1) ∧ (va_D A (xw dA dZ h q mem bs ops tg sr sc la lb x.1 x.2.1 (nI n) (nI (uOff ops (i + 1))) sm)) ∧ (va_S A s.heap x.2.2.1 x.2.2.2)) (Hh := fun x => x.2.2.1) (Ll := fun x => x.2.2.2) (g := fun _ => F0 m 82 ls []) ?_ (fun K => ?_)
        · rintro ⟨fr, fw, H, locs⟩ ⟨hL, hA1, hB1, hC1, hP, hD, hS⟩
          have hL : LU ops tg sr sc i fr fw := hL
          have hA1 : ¬ ops i = 6 → fr (uOff ops i) = tg i ∧ fw (uOff ops i) = 1 := hA1
          have hB1 : ¬ ops i = 7 → fr (uOff ops i + uA ops i) = sr i := hB1
          have hC1 : xTwo (ops i) → fr (uOff ops i + uA ops i + uB ops i) = sc i := hC1
          have hP : va_P (dC, dI) vwCl (xw dA dZ h q mem bs ops tg sr sc la lb fr fw (nI n) (nI (uOff ops (i + 1))) sm) H := hP
          have hD : va_D A (xw dA dZ h q mem bs ops tg sr sc la lb fr fw (nI n) (nI (uOff ops (i + 1))) sm) := hD
          have hS : va_S A s.heap H locs := hS
          show W p l e _ s m _ below meth c H locs _ _ _ (F0 m 82 ls [])
          refine lv_iinc (v := nI (i + 1)) (lv' := [(1, .int (nI (i + 1))), (0, .ref h)]) hx hb dX0_listUses_82 hl (k := 0) rfl (nI_1 i) (by decide) rfl (fun ls hl => ?_)
          refine lv_goto (tgt := 7) hx hb dX0_listUses_85 (by decide) ?_
          exact ih (i + 1, fr, fw, H, locs, ls) ⟨by omega, LU_next hL hA1 hB1 hC1, hP, hD, hS, lv_sub hl [0, 1] rfl⟩ (by dsimp only; omega)
        · refine lv_aload_n hx hb dX0_listUses_59 rfl (lv_at hl 1 rfl) ?_
          refine va_get (D := (dC, dI)) (ci := 0) (v := .ref (q 2)) (C := RX0) (T := TX0) (N := 13) hx hb hts in_X0 hown hK hP 0 rfl rfl 2 (by decide) (hts _ q26) (fun _ h9 => h9) rfl dX0_listUses_60 ?_
          refine lv_iload_n hx hb dX0_listUses_63 rfl (lv_at hl 0 rfl) ?_
          refine ha_ld hx hb hK hP 3 0 rfl rfl i (rfl) (by omega) (by decide) dX0_listUses_64 ?_
          refine vp_callSi (W.runS (As := [.int (ops i)]) (rest := []) ⟨hx, hb, hml, hown, hts⟩ (metX0_takesTwo l (ops i)) (va_cwS 1 hts (lw_S q73 q74 q14 q75) rfl rfl rfl (by decide +kernel) ⟨Nat.le_of_ble_eq_true rfl, Nat.le_of_ble_eq_true rfl⟩) ⟨ha_N_blind, fun U hU hW => ⟨rfl, trivial⟩⟩ rfl rfl hl.1 rfl (lv_room (Nat.le_of_ble_eq_true rfl)) dX0_listUses_65 ⟨Nat.le_of_ble_eq_true rfl, Nat.le_of_ble_eq_true rfl⟩) (fun r_ hw => ?_)
          have hb_2 : ¬ r_ = 0 ↔ xTwo (ops i) := hw
          clear hw
          generalize r_ = b_2 at hb_2 ⊢
          refine lv_if_eq (tgt := 82) hx hb dX0_listUses_68 (by decide) (fun c_3 => ?_) (fun c_3 => ?_)
          · have hn2 : ¬ xTwo (ops i) := fun z => hb_2.mpr z c_3
            exact K (fr, fw, H, locs) ⟨hL, hA1, hB1, fun z => absurd z hn2, by rw [uOff_s, uC_0 hn2]; exact hP, by rw [uOff_s, uC_0 hn2]; exact hD, hS⟩
          · have hy2 := hb_2.mp c_3
            refine lv_aload_n hx hb dX0_listUses_71 rfl (lv_at hl 1 rfl) ?_
            refine lv_aload_n hx hb dX0_listUses_72 rfl (lv_at hl 1 rfl) ?_
            refine va_get (D := (dC, dI)) (ci := 0) (v := .ref (q 5)) (C := RX0) (T := TX0) (N := 13) hx hb hts in_X0 hown hK hP 0 rfl rfl 5 (by decide) (hts _ q29) (fun _ h9 => h9) rfl dX0_listUses_73 ?_
            refine lv_iload_n hx hb dX0_listUses_76 rfl (lv_at hl 0 rfl) ?_
            refine ha_ld hx hb hK hP 6 0 rfl rfl i (rfl) (by omega) (by decide) dX0_listUses_77 ?_
            refine lv_iconst (v := 0) hx hb dX0_listUses_78 (by decide) ?_
            have hFc := va_free (wc := xw dA dZ h q mem bs ops tg sr sc la lb fr fw (nI n) (nI (uOff ops i + uA ops i + uB ops i)) sm) hD hS hA [0, 1, 2, 3, 4, 5, 6, 7, 8, 9, 10] rfl
            refine va_callv (va_runV (As := [.int (sc i), .int 0]) (rest := []) ⟨hx, hb, hml, hown, hts⟩ (metX0_use l dC dI dA dZ h q mem bs ops tg sr sc la lb fr fw (nI n) sm H.size (uOff ops i + uA ops i + uB ops i) (by omega) (sc i) 0 rfl) (cwV 2 hts (lw_V q104 q106 qs2 q14 q107) rfl rfl rfl (by decide +kernel) ⟨Nat.le_of_ble_eq_true rfl, Nat.le_of_ble_eq_true rfl⟩) ⟨ha_M_blind, va_recv hK hP (ci := 0) (q0 := 0) rfl rfl, fun U hU hW => ⟨rfl, by rw [hU], by rw [hU]; exact hP, va_K.moved hW.alike hK, hD.weaken (fun _ _ _ _ => trivial)⟩⟩ rfl rfl hl.1 rfl (lv_room (Nat.le_of_ble_eq_true rfl)) dX0_listUses_79 ⟨Nat.le_of_ble_eq_true rfl, Nat.le_of_ble_eq_true rfl⟩) hS (fun q _ h => hFc q h) hFc (fun u_ t H1 locs ht hvm hw hB hz1 hk1 hS => ?_)
            obtain ⟨hP1, hK1, hD1⟩ := hB
            rw [ht] at hP1
            have hK := va_K.moved hvm.symm hK1
            obtain ⟨hP, hD⟩ := va_join (wr := []) hP hD [0, 1, 2, 3, 4, 5, 6, 7, 8, 9, 10] [] rfl rfl (by decide) (by decide) hk1 hFc hP1 hD1
            generalize H1 = H at hP hS ⊢
            have hP : va_P (dC, dI) vwCl (xw dA dZ h q mem bs ops tg sr sc la lb (upd fr (uOff ops i + uA ops i + uB ops i) (sc i)) (upd fw (uOff ops i + uA ops i + uB ops i) 0) (nI n) (nI ((uOff ops i + uA ops i + uB ops i) + 1)) sm) H := hP
            have hD : va_D A (xw dA dZ h q mem bs ops tg sr sc la lb (upd fr (uOff ops i + uA ops i + uB ops i) (sc i)) (upd fw (uOff ops i + uA ops i + uB ops i) 0) (nI n) (nI ((uOff ops i + uA ops i + uB ops i) + 1)) sm) := hD
            have hK : va_K (dC, dI) vwCl (xT dA dZ) s := hK
            exact K ((upd fr (uOff ops i + uA ops i + uB ops i) (sc i)), (upd fw (uOff ops i + uA ops i + uB ops i) 0), H, locs) ⟨LU_keep hL (by omega) _ _, fun z => by have := uA_1 z; dsimp only; rw [pk_un (by omega), pk_un (by omega)]; exact hA1 z, fun z => by have := uB_1 z; dsimp only; rw [pk_un (by omega)]; exact hB1 z, fun _ => pk_us, by rw [uOff_s, uC_1 hy2]; exact hP, by rw [uOff_s, uC_1 hy2]; exact hD, hS⟩
      · refine lv_aload_n hx hb dX0_listUses_37 rfl (lv_at hl 1 rfl) ?_
        refine va_get (D := (dC, dI)) (ci := 0) (v := .ref (q 2)) (C := RX0) (T := TX0) (N := 13) hx hb hts in_X0 hown hK hP 0 rfl rfl 2 (by decide) (hts _ q26) (fun _ h9 => h9) rfl dX0_listUses_38 ?_
        refine lv_iload_n hx hb dX0_listUses_41 rfl (lv_at hl 0 rfl) ?_
        refine ha_ld hx hb hK hP 3 0 rfl rfl i (rfl) (by omega) (by decide) dX0_listUses_42 ?_
        refine lv_bipush (v := 7) hx hb dX0_listUses_43 (by decide) ?_
        refine lv_icmp_eq (tgt := 59) hx hb dX0_listUses_45 (by decide) (fun c_4 => ?_) (fun c_4 => ?_)
        · exact K (fr, fw, H, locs) ⟨hL, hA1, fun z => absurd c_4 z, by rw [uB_0 c_4]; exact hP, by rw [uB_0 c_4]; exact hD, hS⟩
        · refine lv_aload_n hx hb dX0_listUses_48 rfl (lv_at hl 1 rfl) ?_
          refine lv_aload_n hx hb dX0_listUses_49 rfl (lv_at hl 1 rfl) ?_
          refine va_get (D := (dC, dI)) (ci := 0) (v := .ref (q 4)) (C := RX0) (T := TX0) (N := 13) hx hb hts in_X0 hown hK hP 0 rfl rfl 4 (by decide) (hts _ q28) (fun _ h9 => h9) rfl dX0_listUses_50 ?_
          refine lv_iload_n hx hb dX0_listUses_53 rfl (lv_at hl 0 rfl) ?_
          refine ha_ld hx hb hK hP 5 0 rfl rfl i (rfl) (by omega) (by decide) dX0_listUses_54 ?_
          refine lv_iconst (v := 0) hx hb dX0_listUses_55 (by decide) ?_
          have hFc := va_free (wc := xw dA dZ h q mem bs ops tg sr sc la lb fr fw (nI n) (nI (uOff ops i + uA ops i)) sm) hD hS hA [0, 1, 2, 3, 4, 5, 6, 7, 8, 9, 10] rfl
          refine va_callv (va_runV (As := [.int (sr i), .int 0]) (rest := []) ⟨hx, hb, hml, hown, hts⟩ (metX0_use l dC dI dA dZ h q mem bs ops tg sr sc la lb fr fw (nI n) sm H.size (uOff ops i + uA ops i) (by omega) (sr i) 0 rfl) (cwV 2 hts (lw_V q104 q106 qs2 q14 q107) rfl rfl rfl (by decide +kernel) ⟨Nat.le_of_ble_eq_true rfl, Nat.le_of_ble_eq_true rfl⟩) ⟨ha_M_blind, va_recv hK hP (ci := 0) (q0 := 0) rfl rfl, fun U hU hW => ⟨rfl, by rw [hU], by rw [hU]; exact hP, va_K.moved hW.alike hK, hD.weaken (fun _ _ _ _ => trivial)⟩⟩ rfl rfl hl.1 rfl (lv_room (Nat.le_of_ble_eq_true rfl)) dX0_listUses_56 ⟨Nat.le_of_ble_eq_true rfl, Nat.le_of_ble_eq_true rfl⟩) hS (fun q _ h => hFc q h) hFc (fun u_ t H1 locs ht hvm hw hB hz1 hk1 hS => ?_)
          obtain ⟨hP1, hK1, hD1⟩ := hB
          rw [ht] at hP1
          have hK := va_K.moved hvm.symm hK1
          obtain ⟨hP, hD⟩ := va_join (wr := []) hP hD [0, 1, 2, 3, 4, 5, 6, 7, 8, 9, 10] [] rfl rfl (by decide) (by decide) hk1 hFc hP1 hD1
          generalize H1 = H at hP hS ⊢
          have hP : va_P (dC, dI) vwCl (xw dA dZ h q mem bs ops tg sr sc la lb (upd fr (uOff ops i + uA ops i) (sr i)) (upd fw (uOff ops i + uA ops i) 0) (nI n) (nI ((uOff ops i + uA ops i) + 1)) sm) H := hP
          have hD : va_D A (xw dA dZ h q mem bs ops tg sr sc la lb (upd fr (uOff ops i + uA ops i) (sr i)) (upd fw (uOff ops i + uA ops i) 0) (nI n) (nI ((uOff ops i + uA ops i) + 1)) sm) := hD
          have hK : va_K (dC, dI) vwCl (xT dA dZ) s := hK
          exact K ((upd fr (uOff ops i + uA ops i) (sr i)), (upd fw (uOff ops i + uA ops i) 0), H, locs) ⟨LU_keep hL (by omega) _ _, fun z => by have := uA_1 z; dsimp only; rw [pk_un (by omega), pk_un (by omega)]; exact hA1 z, fun _ => pk_us, by rw [uB_1 c_4]; exact hP, by rw [uB_1 c_4]; exact hD, hS⟩
    · refine lv_aload_n hx hb dX0_listUses_15 rfl (lv_at hl 1 rfl) ?_
      refine va_get (D := (dC, dI)) (ci := 0) (v := .ref (q 2)) (C := RX0) (T := TX0) (N := 13) hx hb hts in_X0 hown hK hP 0 rfl rfl 2 (by decide) (hts _ q26) (fun _ h9 => h9) rfl dX0_listUses_16 ?_
      refine lv_iload_n hx hb dX0_listUses_19 rfl (lv_at hl 0 rfl) ?_
      refine ha_ld hx hb hK hP 3 0 rfl rfl i (rfl) (by omega) (by decide) dX0_listUses_20 ?_
      refine lv_bipush (v := 6) hx hb dX0_listUses_21 (by decide) ?_
      refine lv_icmp_eq (tgt := 37) hx hb dX0_listUses_23 (by decide) (fun c_5 => ?_) (fun c_5 => ?_)
      · exact K (fr, fw, H, locs) ⟨hL, fun z => absurd c_5 z, by rw [uA_0 c_5]; exact hP, by rw [uA_0 c_5]; exact hD, hS⟩
      · refine lv_aload_n hx hb dX0_listUses_26 rfl (lv_at hl 1 rfl) ?_
        refine lv_aload_n hx hb dX0_listUses_27 rfl (lv_at hl 1 rfl) ?_
        refine va_get (D := (dC, dI)) (ci := 0) (v := .ref (q 3)) (C := RX0) (T := TX0) (N := 13) hx hb hts in_X0 hown hK hP 0 rfl rfl 3 (by decide) (hts _ q27) (fun _ h9 => h9) rfl dX0_listUses_28 ?_
        refine lv_iload_n hx hb dX0_listUses_31 rfl (lv_at hl 0 rfl) ?_
        refine ha_ld hx hb hK hP 4 0 rfl rfl i (rfl) (by omega) (by decide) dX0_listUses_32 ?_
        refine lv_iconst (v := 1) hx hb dX0_listUses_33 (by decide) ?_
        have hFc := va_free (wc := xw dA dZ h q mem bs ops tg sr sc la lb fr fw (nI n) (nI (uOff ops i)) sm) hD hS hA [0, 1, 2, 3, 4, 5, 6, 7, 8, 9, 10] rfl
        refine va_callv (va_runV (As := [.int (tg i), .int 1]) (rest := []) ⟨hx, hb, hml, hown, hts⟩ (metX0_use l dC dI dA dZ h q mem bs ops tg sr sc la lb fr fw (nI n) sm H.size (uOff ops i) (by omega) (tg i) 1 rfl) (cwV 2 hts (lw_V q104 q106 qs2 q14 q107) rfl rfl rfl (by decide +kernel) ⟨Nat.le_of_ble_eq_true rfl, Nat.le_of_ble_eq_true rfl⟩) ⟨ha_M_blind, va_recv hK hP (ci := 0) (q0 := 0) rfl rfl, fun U hU hW => ⟨rfl, by rw [hU], by rw [hU]; exact hP, va_K.moved hW.alike hK, hD.weaken (fun _ _ _ _ => trivial)⟩⟩ rfl rfl hl.1 rfl (lv_room (Nat.le_of_ble_eq_true rfl)) dX0_listUses_34 ⟨Nat.le_of_ble_eq_true rfl, Nat.le_of_ble_eq_true rfl⟩) hS (fun q _ h => hFc q h) hFc (fun u_ t H1 locs ht hvm hw hB hz1 hk1 hS => ?_)
        obtain ⟨hP1, hK1, hD1⟩ := hB
        rw [ht] at hP1
        have hK := va_K.moved hvm.symm hK1
        obtain ⟨hP, hD⟩ := va_join (wr := []) hP hD [0, 1, 2, 3, 4, 5, 6, 7, 8, 9, 10] [] rfl rfl (by decide) (by decide) hk1 hFc hP1 hD1
        generalize H1 = H at hP hS ⊢
        have hP : va_P (dC, dI) vwCl (xw dA dZ h q mem bs ops tg sr sc la lb (upd fr (uOff ops i) (tg i)) (upd fw (uOff ops i) 1) (nI n) (nI ((uOff ops i) + 1)) sm) H := hP
        have hD : va_D A (xw dA dZ h q mem bs ops tg sr sc la lb (upd fr (uOff ops i) (tg i)) (upd fw (uOff ops i) 1) (nI n) (nI ((uOff ops i) + 1)) sm) := hD
        have hK : va_K (dC, dI) vwCl (xT dA dZ) s := hK
        exact K ((upd fr (uOff ops i) (tg i)), (upd fw (uOff ops i) 1), H, locs) ⟨LU_keep hL (Nat.le_refl _) _ _, fun _ => ⟨pk_us, pk_us⟩, by rw [uA_1 c_5]; exact hP, by rw [uA_1 c_5]; exact hD, hS⟩
end
section
theorem ha_nle {a b : Int32} (h : ¬ a ≤ b) : b ≤ a := by
  rw [fa_le] at *
  omega
theorem mc_gap1 {a b : Int32} (c : b ≤ a) (ha : 0 ≤ a.toInt ∧ a.toInt < 64) (hb : 0 ≤ b.toInt ∧ b.toInt < 64) : ∃ g : Nat, a - b = nI g ∧ ((g : Int) = a.toInt - b.toInt ∨ (g : Int) = b.toInt - a.toInt) := by
  rw [fa_le] at c
  have e : (a - b).toInt = a.toInt - b.toInt := fb_subI (by omega) (by omega)
  obtain ⟨g, hg, eg⟩ := nI_of (x := a - b) (by rw [fa_lt, e, show (0 : Int32).toInt = 0 from rfl]; omega)
  refine ⟨g, eg, Or.inl ?_⟩
  rw [← e, eg, nI_toInt hg]
theorem mc_gap2 {a b : Int32} (c : ¬ b ≤ a) (ha : 0 ≤ a.toInt ∧ a.toInt < 64) (hb : 0 ≤ b.toInt ∧ b.toInt < 64) : ∃ g : Nat, b - a = nI g ∧ ((g : Int) = a.toInt - b.toInt ∨ (g : Int) = b.toInt - a.toInt) := by
  obtain ⟨g, h1, h2⟩ := mc_gap1 (ha_nle c) hb ha
  exact ⟨g, h1, h2.symm⟩
theorem mc_wid1 {a : Int32} (c : 0 ≤ a) (hs : -3 ≤ a.toInt ∧ a.toInt ≤ 4) : ∃ w : Nat, a = nI w ∧ ((w : Int) = a.toInt ∨ (w : Int) = -a.toInt) := by
  rw [fa_le, show (0 : Int32).toInt = 0 from rfl] at c
  obtain ⟨w, hw, ew⟩ := nI_of (x := a) (by rw [fa_lt, show (0 : Int32).toInt = 0 from rfl]; omega)
  exact ⟨w, ew, Or.inl (by rw [ew, nI_toInt hw])⟩
theorem mc_wid2 {a : Int32} (c : ¬ 0 ≤ a) (hs : -3 ≤ a.toInt ∧ a.toInt ≤ 4) : ∃ w : Nat, -a = nI w ∧ ((w : Int) = a.toInt ∨ (w : Int) = -a.toInt) := by
  rw [fa_le, show (0 : Int32).toInt = 0 from rfl] at c
  have e : (-a).toInt = -a.toInt := fb_negI (by omega)
  obtain ⟨w, hw, ew⟩ := nI_of (x := -a) (by rw [fa_lt, e, show (0 : Int32).toInt = 0 from rfl]; omega)
  exact ⟨w, ew, Or.inr (by rw [← e, ew, nI_toInt hw])⟩
theorem mc_w0 {v a : Int32} {w : Nat} (e : v = nI w) (h : (w : Int) = a.toInt ∨ (w : Int) = -a.toInt) (hs : -3 ≤ a.toInt ∧ a.toInt ≤ 4) (h1 : 1 < v) : 1 < w ∧ w < 5 := by
  have h5 : w < 5 := by omega
  rw [e] at h1
  exact ⟨(nI_ltI (a := 1) (by decide) (by omega)).mp h1, h5⟩
theorem mc_n0 {v : Int32} (h : 1 < v) : ¬ v = 0 := by rintro rfl; exact absurd h (by decide)
theorem mc_le0 {v : Int32} (h : 1 < v) : ¬ v ≤ 0 := by
  rw [fa_lt, show (1 : Int32).toInt = 1 from rfl] at h
  rw [fa_le, show (0 : Int32).toInt = 0 from rfl]
  omega
theorem mc_rem {x v a b : Int32} {g w : Nat} (eg : x = nI g) (ew : v = nI w) (hg : (g : Int) = a.toInt - b.toInt ∨ (g : Int) = b.toInt - a.toInt) (ha : 0 ≤ a.toInt ∧ a.toInt < 64) (hb : 0 ≤ b.toInt ∧ b.toInt < 64) (hw : 1 < w) (hw2 : w < 5) (h : ¬ x - x / v * v = 0) : g % w ≠ 0 := by
  intro z
  rw [eg, ew, pk_rem (by omega) (by omega) (by omega), z] at h
  exact h nI_0
theorem mc_e1 {a b s z : Int32} (h : a = b) (h2 : s = z) (hs : -3 ≤ s.toInt ∧ s.toInt ≤ 4) (h0 : ¬ s = 0) {T : Nat} : ∀ i j : Nat, i < T → j < T → i ≠ j → a.toInt + s.toInt * (i : Int) ≠ b.toInt + z.toInt * (j : Int) := by
  intro i j _ _ hij
  rw [← h, ← h2]
  refine mc_A hs (fun q => h0 ?_) hij
  rw [fa_eq, q]
  rfl
theorem mc_e2 {a b s z a8 b9 al ah bl bh : Int32} {T : Nat} (h : ah < bl ∨ bh < al) (hs : -3 ≤ s.toInt ∧ s.toInt ≤ 4) (hz : -3 ≤ z.toInt ∧ z.toInt ≤ 4) (e8 : a8.toInt = a.toInt + s.toInt * ((T : Int) - 1)) (e9 : b9.toInt = b.toInt + z.toInt * ((T : Int) - 1)) (h1 : al ≤ a ∧ al ≤ a8) (h2 : a ≤ ah ∧ a8 ≤ ah) (h3 : bl ≤ b ∧ bl ≤ b9) (h4 : b ≤ bh ∧ b9 ≤ bh) : ∀ i j : Nat, i < T → j < T → i ≠ j → a.toInt + s.toInt * (i : Int) ≠ b.toInt + z.toInt * (j : Int) := by
  intro i j hi hj _
  simp only [fa_le, fa_lt] at h h1 h2 h3 h4
  rw [e8] at h1 h2
  rw [e9] at h3 h4
  have q1 := mc_lo hs hi h1.1 h1.2
  have q2 := mc_hi hs hi h2.1 h2.2
  have q3 := mc_lo hz hj h3.1 h3.2
  have q4 := mc_hi hz hj h4.1 h4.2
  omega
theorem mc_e3 {a b s z : Int32} {g w T : Nat} (hs : -3 ≤ s.toInt ∧ s.toInt ≤ 4) (hz : -3 ≤ z.toInt ∧ z.toInt ≤ 4) (hw : (w : Int) = s.toInt ∨ (w : Int) = -s.toInt) (h : s = z ∨ s = -z) (hg : (g : Int) = a.toInt - b.toInt ∨ (g : Int) = b.toInt - a.toInt) (hm : g % w ≠ 0) : ∀ i j : Nat, i < T → j < T → i ≠ j → a.toInt + s.toInt * (i : Int) ≠ b.toInt + z.toInt * (j : Int) := by
  intro i j _ _ _
  refine mc_C hs hw ?_ hg hm i j
  rcases h with h | h
  · exact Or.inl (by rw [h])
  · exact Or.inr (by rw [h]; exact fb_negI (by omega))
set_option maxHeartbeats 4000000 in
set_option maxRecDepth 100000 in
/-- mayClash: 0 only where no cell is common to two rounds -/
theorem metX0_mayClash (l : Launch) (dC : Nat → ClassId) (dI : Nat → Nat → Nat) (dA dZ : ClassId) (h : Nat) (q : Nat → Nat) (mem bs ops tg sr sc la lb ur uw : ha_F) (cnt us sm : Int32) (p0 p1 : Int32) (T : Nat) (hT1 : 1 ≤ T) (hT2 : T ≤ 40) (hw0 : xNW bs p0 T) (hw1 : xNW bs p1 T) : Met l yX0_mayClash (ws_ yX0_mayClash cX0_mayClash 17 (some .boolean)) ({ frames := 1, cells := 0, slots := 0, locals := 21 }) (ha_R dC dI [.ref h, .int p0, .int p1, .int (nI T)] (xw dA dZ h q mem bs ops tg sr sc la lb ur uw cnt us sm) (xT dA dZ)) (vp_Si (fun r => r = 0 → xNC bs p0 p1 T)) 0 0 (fun _ => False) := by
  refine Met.ofW (cc := cX0_mayClash) (maxL := 17) (ret := (some .boolean)) (by decide) rfl ?_
  intro p e s m args below meth c s₁ B hml hv
  obtain ⟨rfl, hP, hK⟩ := hv
  have hx := B.exec
  have hb := B.bytes
  have hr := B.returns
  have hts := atoms_spec (ws := ws_ yX0_mayClash cX0_mayClash 17 (some .boolean)) B.pre
  have hts : ∀ w ∈ lw_all, w.before _ s = true := fun w h => hts w (List.mem_cons_of_mem _ h)
  have hown : s.vm.findClass RX0 = some m.cls := findClass_of_methodNamed B.named
  have hlocks := B.notSynchronized
  have hP : va_P (dC, dI) vwCl (xw dA dZ h q mem bs ops tg sr sc la lb ur uw cnt us sm) s.heap := hP
  have hl := lv_entry ([.ref h, .int p0, .int p1, .int (nI T)]) (n := 17) (Nat.le_of_ble_eq_true rfl)
  rw [lg_entry_eq]
  generalize (lg_sl ([.ref h, .int p0, .int p1, .int (nI T)]) ++ List.replicate (17 - (lg_sl ([.ref h, .int p0, .int p1, .int (nI T)])).length) Slot.unset).toArray = ls at hl ⊢
  have hl : lv_has ls 17 [(0, .ref h), (1, .int p0), (2, .int p1), (3, .int (nI T))] := hl
  refine lv_aload_n hx hb dX0_mayClash_0 rfl (lv_at hl 0 rfl) ?_
  refine lv_iload_n hx hb dX0_mayClash_1 rfl (lv_at hl 1 rfl) ?_
  refine vp_callSi (W.runV (As := [.int p0]) (rest := []) ⟨hx, hb, hml, hown, hts⟩ (metX0_startOf l dC dI dA dZ h q mem bs ops tg sr sc la lb ur uw cnt us sm p0) (cwV 1 hts (lw_V q108 q110 qs3 q14 q111) rfl rfl rfl (by decide +kernel) ⟨Nat.le_of_ble_eq_true rfl, Nat.le_of_ble_eq_true rfl⟩) ⟨ha_R_blind, va_recv hK hP (ci := 0) (q0 := 0) rfl rfl, fun U hU hW => ⟨rfl, by rw [hU]; exact hP, va_K.moved hW.alike hK⟩⟩ rfl rfl hl.1 rfl (lv_room (Nat.le_of_ble_eq_true rfl)) dX0_mayClash_2 ⟨Nat.le_of_ble_eq_true rfl, Nat.le_of_ble_eq_true rfl⟩) (fun r_ hw => ?_)
  have hw : r_ = xSt bs p0 := hw
  subst hw
  refine lv_topi (fun a4 ea4 => ?_)
  refine lv_istore (lv' := [(4, .int a4), (0, .ref h), (1, .int p0), (2, .int p1), (3, .int (nI T))]) hx hb dX0_mayClash_5 hl (by decide) rfl (fun ls hl => ?_)
  refine lv_aload_n hx hb dX0_mayClash_7 rfl (lv_at hl 1 rfl) ?_
  refine lv_iload_n hx hb dX0_mayClash_8 rfl (lv_at hl 3 rfl) ?_
  refine vp_callSi (W.runV (As := [.int p1]) (rest := []) ⟨hx, hb, hml, hown, hts⟩ (metX0_startOf l dC dI dA dZ h q mem bs ops tg sr sc la lb ur uw cnt us sm p1) (cwV 1 hts (lw_V q108 q110 qs3 q14 q111) rfl rfl rfl (by decide +kernel) ⟨Nat.le_of_ble_eq_true rfl, Nat.le_of_ble_eq_true rfl⟩) ⟨ha_R_blind, va_recv hK hP (ci := 0) (q0 := 0) rfl rfl, fun U hU hW => ⟨rfl, by rw [hU]; exact hP, va_K.moved hW.alike hK⟩⟩ rfl rfl hl.1 rfl (lv_room (Nat.le_of_ble_eq_true rfl)) dX0_mayClash_9 ⟨Nat.le_of_ble_eq_true rfl, Nat.le_of_ble_eq_true rfl⟩) (fun r_ hw => ?_)
  have hw : r_ = xSt bs p1 := hw
  subst hw
  refine lv_topi (fun a5 ea5 => ?_)
  refine lv_istore (lv' := [(5, .int a5), (4, .int a4), (0, .ref h), (1, .int p0), (2, .int p1), (3, .int (nI T))]) hx hb dX0_mayClash_12 hl (by decide) rfl (fun ls hl => ?_)
  refine lv_iload_n hx hb dX0_mayClash_14 rfl (lv_at hl 3 rfl) ?_
  refine vp_callSi (W.runS (As := [.int p0]) (rest := []) ⟨hx, hb, hml, hown, hts⟩ (metX0_strideOf l p0) (va_cwS 1 hts (lw_S q112 q113 q14 q114) rfl rfl rfl (by decide +kernel) ⟨Nat.le_of_ble_eq_true rfl, Nat.le_of_ble_eq_true rfl⟩) ⟨ha_N_blind, fun U hU hW => ⟨rfl, trivial⟩⟩ rfl rfl hl.1 rfl (lv_room (Nat.le_of_ble_eq_true rfl)) dX0_mayClash_15 ⟨Nat.le_of_ble_eq_true rfl, Nat.le_of_ble_eq_true rfl⟩) (fun r_ hw => ?_)
  have hw : r_ = xSd p0 := hw
  subst hw
  refine lv_topi (fun a6 ea6 => ?_)
  refine lv_istore (lv' := [(6, .int a6), (5, .int a5), (4, .int a4), (0, .ref h), (1, .int p0), (2, .int p1), (3, .int (nI T))]) hx hb dX0_mayClash_18 hl (by decide) rfl (fun ls hl => ?_)
  refine lv_iload_n hx hb dX0_mayClash_20 rfl (lv_at hl 5 rfl) ?_
  refine vp_callSi (W.runS (As := [.int p1]) (rest := []) ⟨hx, hb, hml, hown, hts⟩ (metX0_strideOf l p1) (va_cwS 1 hts (lw_S q112 q113 q14 q114) rfl rfl rfl (by decide +kernel) ⟨Nat.le_of_ble_eq_true rfl, Nat.le_of_ble_eq_true rfl⟩) ⟨ha_N_blind, fun U hU hW => ⟨rfl, trivial⟩⟩ rfl rfl hl.1 rfl (lv_room (Nat.le_of_ble_eq_true rfl)) dX0_mayClash_21 ⟨Nat.le_of_ble_eq_true rfl, Nat.le_of_ble_eq_true rfl⟩) (fun r_ hw => ?_)
  have hw : r_ = xSd p1 := hw
  subst hw
  refine lv_topi (fun a7 ea7 => ?_)
  refine lv_istore (lv' := [(7, .int a7), (6, .int a6), (5, .int a5), (4, .int a4), (0, .ref h), (1, .int p0), (2, .int p1), (3, .int (nI T))]) hx hb dX0_mayClash_24 hl (by decide) rfl (fun ls hl => ?_)
  have hr4 : 0 ≤ a4.toInt ∧ a4.toInt < 64 := by rw [ea4]; exact ⟨hw0.1, hw0.2.1⟩
  have hr5 : 0 ≤ a5.toInt ∧ a5.toInt < 64 := by rw [ea5]; exact ⟨hw1.1, hw1.2.1⟩
  have hs6 : -3 ≤ a6.toInt ∧ a6.toInt ≤ 4 := by rw [ea6]; exact xSd_rng _
  have hs7 : -3 ≤ a7.toInt ∧ a7.toInt ≤ 4 := by rw [ea7]; exact xSd_rng _
  have hgoal : (∀ i j : Nat, i < T → j < T → i ≠ j → a4.toInt + a6.toInt * (i : Int) ≠ a5.toInt + a7.toInt * (j : Int)) → xNC bs p0 p1 T := by rw [ea4, ea5, ea6, ea7]; exact fun z => z
  refine lv_iload hx hb dX0_mayClash_26 (lv_at hl 3 rfl) ?_
  refine lv_iload hx hb dX0_mayClash_28 (lv_at hl 2 rfl) ?_
  refine lv_icmp_ne (tgt := 51) hx hb dX0_mayClash_30 (by decide) (fun c_1 => ?_) (fun c_1 => ?_)
  · refine lv_iload hx hb dX0_mayClash_51 (lv_at hl 3 rfl) ?_
    refine lv_iload hx hb dX0_mayClash_53 (lv_at hl 1 rfl) ?_
    refine lv_iload_n hx hb dX0_mayClash_55 rfl (lv_at hl 7 rfl) ?_
    refine lv_iconst (v := 1) hx hb dX0_mayClash_56 (by decide) ?_
    refine lv_isub hx hb dX0_mayClash_57 ?_
    refine lv_imul hx hb dX0_mayClash_58 ?_
    refine lv_iadd hx hb dX0_mayClash_59 ?_
    refine lv_topi (fun a8 ea8 => ?_)
    refine lv_istore (lv' := [(8, .int a8), (7, .int a7), (6, .int a6), (5, .int a5), (4, .int a4), (0, .ref h), (1, .int p0), (2, .int p1), (3, .int (nI T))]) hx hb dX0_mayClash_60 hl (by decide) rfl (fun ls hl => ?_)
    refine lv_iload hx hb dX0_mayClash_62 (lv_at hl 3 rfl) ?_
    refine lv_iload hx hb dX0_mayClash_64 (lv_at hl 1 rfl) ?_
    refine lv_iload_n hx hb dX0_mayClash_66 rfl (lv_at hl 8 rfl) ?_
    refine lv_iconst (v := 1) hx hb dX0_mayClash_67 (by decide) ?_
    refine lv_isub hx hb dX0_mayClash_68 ?_
    refine lv_imul hx hb dX0_mayClash_69 ?_
    refine lv_iadd hx hb dX0_mayClash_70 ?_
    refine lv_topi (fun a9 ea9 => ?_)
    refine lv_istore (lv' := [(9, .int a9), (8, .int a8), (7, .int a7), (6, .int a6), (5, .int a5), (4, .int a4), (0, .ref h), (1, .int p0), (2, .int p1), (3, .int (nI T))]) hx hb dX0_mayClash_71 hl (by decide) rfl (fun ls hl => ?_)
    have he8 : a8.toInt = a4.toInt + a6.toInt * ((T : Int) - 1) := by rw [ea8]; exact xEnd hr4.1 hr4.2 hs6 hT1 hT2
    have he9 : a9.toInt = a5.toInt + a7.toInt * ((T : Int) - 1) := by rw [ea9]; exact xEnd hr5.1 hr5.2 hs7 hT1 hT2
    refine ha_join (α := Int32) (P := fun v10 => (v10 ≤ a4 ∧ v10 ≤ a8)) (g := fun v10 => F0 m 87 ls [.int v10]) (fun v10 hv10 => ?_) (fun K => ?_)
    · have hv10 : (v10 ≤ a4 ∧ v10 ≤ a8) := hv10
      refine lv_istore (lv' := [(10, .int v10), (9, .int a9), (8, .int a8), (7, .int a7), (6, .int a6), (5, .int a5), (4, .int a4), (0, .ref h), (1, .int p0), (2, .int p1), (3, .int (nI T))]) hx hb dX0_mayClash_87 hl (by decide) rfl (fun ls hl => ?_)
      refine ha_join (α := Int32) (P := fun v11 => (a4 ≤ v11 ∧ a8 ≤ v11)) (g := fun v11 => F0 m 103 ls [.int v11]) (fun v11 hv11 => ?_) (fun K => ?_)
      · have hv11 : (a4 ≤ v11 ∧ a8 ≤ v11) := hv11
        refine lv_istore (lv' := [(11, .int v11), (10, .int v10), (9, .int a9), (8, .int a8), (7, .int a7), (6, .int a6), (5, .int a5), (4, .int a4), (0, .ref h), (1, .int p0), (2, .int p1), (3, .int (nI T))]) hx hb dX0_mayClash_103 hl (by decide) rfl (fun ls hl => ?_)
        refine ha_join (α := Int32) (P := fun v12 => (v12 ≤ a5 ∧ v12 ≤ a9)) (g := fun v12 => F0 m 119 ls [.int v12]) (fun v12 hv12 => ?_) (fun K => ?_)
        · have hv12 : (v12 ≤ a5 ∧ v12 ≤ a9) := hv12
          refine lv_istore (lv' := [(12, .int v12), (11, .int v11), (10, .int v10), (9, .int a9), (8, .int a8), (7, .int a7), (6, .int a6), (5, .int a5), (4, .int a4), (0, .ref h), (1, .int p0), (2, .int p1), (3, .int (nI T))]) hx hb dX0_mayClash_119 hl (by decide) rfl (fun ls hl => ?_)
          refine ha_join (α := Int32) (P := fun v13 => (a5 ≤ v13 ∧ a9 ≤ v13)) (g := fun v13 => F0 m 135 ls [.int v13]) (fun v13 hv13 => ?_) (fun K => ?_)
          · have hv13 : (a5 ≤ v13 ∧ a9 ≤ v13) := hv13
            refine lv_istore (lv' := [(13, .int v13), (12, .int v12), (11, .int v11), (10, .int v10), (9, .int a9), (8, .int a8), (7, .int a7), (6, .int a6), (5, .int a5), (4, .int a4), (0, .ref h), (1, .int p0), (2, .int p1), (3, .int (nI T))]) hx hb dX0_mayClash_135 hl (by decide) rfl (fun ls hl => ?_)
            refine lv_iload hx hb dX0_mayClash_137 (lv_at hl 2 rfl) ?_
            refine lv_iload hx hb dX0_mayClash_139 (lv_at hl 1 rfl) ?_
            refine lv_icmp_lt (tgt := 151) hx hb dX0_mayClash_141 (by decide) (fun c_2 => ?_) (fun c_2 => ?_)
            · refine lv_iconst (v := 0) hx hb dX0_mayClash_151 (by decide) ?_
              exact W.zret (v := 0) hx hb hr rfl (fun t ht hW => ⟨0, rfl, fun _ => hgoal (mc_e2 (Or.inl c_2) hs6 hs7 he8 he9 hv10 hv11 hv12 hv13), ht⟩) (fun _ h => absurd h List.not_mem_nil) dX0_mayClash_152
            · refine lv_iload hx hb dX0_mayClash_144 (lv_at hl 0 rfl) ?_
              refine lv_iload hx hb dX0_mayClash_146 (lv_at hl 3 rfl) ?_
              refine lv_icmp_ge (tgt := 153) hx hb dX0_mayClash_148 (by decide) (fun c_3 => ?_) (fun c_3 => ?_)
              · refine ha_join (α := Int32) (P := fun g14 => ∃ g : Nat, g14 = nI g ∧ ((g : Int) = a4.toInt - a5.toInt ∨ (g : Int) = a5.toInt - a4.toInt)) (g := fun g14 => F0 m 173 ls [.int g14]) (fun g14 hg14 => ?_) (fun K => ?_)
                · have hg14 : ∃ g : Nat, g14 = nI g ∧ ((g : Int) = a4.toInt - a5.toInt ∨ (g : Int) = a5.toInt - a4.toInt) := hg14
                  refine lv_istore (lv' := [(14, .int g14), (13, .int v13), (12, .int v12), (11, .int v11), (10, .int v10), (9, .int a9), (8, .int a8), (7, .int a7), (6, .int a6), (5, .int a5), (4, .int a4), (0, .ref h), (1, .int p0), (2, .int p1), (3, .int (nI T))]) hx hb dX0_mayClash_173 hl (by decide) rfl (fun ls hl => ?_)
                  refine ha_join (α := Int32) (P := fun w15 => ∃ w : Nat, w15 = nI w ∧ ((w : Int) = a6.toInt ∨ (w : Int) = -a6.toInt)) (g := fun w15 => F0 m 188 ls [.int w15]) (fun w15 hw15 => ?_) (fun K => ?_)
                  · have hw15 : ∃ w : Nat, w15 = nI w ∧ ((w : Int) = a6.toInt ∨ (w : Int) = -a6.toInt) := hw15
                    refine lv_istore (lv' := [(15, .int w15), (14, .int g14), (13, .int v13), (12, .int v12), (11, .int v11), (10, .int v10), (9, .int a9), (8, .int a8), (7, .int a7), (6, .int a6), (5, .int a5), (4, .int a4), (0, .ref h), (1, .int p0), (2, .int p1), (3, .int (nI T))]) hx hb dX0_mayClash_188 hl (by decide) rfl (fun ls hl => ?_)
                    refine ha_join (α := Int32) (P := fun k16 => ¬ k16 = 0 → 1 < w15 ∧ (a6 = a7 ∨ a6 = -a7)) (g := fun k16 => F0 m 216 ls [.int k16]) (fun k16 hk16 => ?_) (fun K => ?_)
                    · have hk16 : ¬ k16 = 0 → 1 < w15 ∧ (a6 = a7 ∨ a6 = -a7) := hk16
                      refine lv_istore (lv' := [(16, .int k16), (15, .int w15), (14, .int g14), (13, .int v13), (12, .int v12), (11, .int v11), (10, .int v10), (9, .int a9), (8, .int a8), (7, .int a7), (6, .int a6), (5, .int a5), (4, .int a4), (0, .ref h), (1, .int p0), (2, .int p1), (3, .int (nI T))]) hx hb dX0_mayClash_216 hl (by decide) rfl (fun ls hl => ?_)
                      refine lv_iload hx hb dX0_mayClash_218 (lv_at hl 0 rfl) ?_
                      refine lv_if_eq (tgt := 240) hx hb dX0_mayClash_220 (by decide) (fun c_4 => ?_) (fun c_4 => ?_)
                      · refine lv_iconst (v := 1) hx hb dX0_mayClash_240 (by decide) ?_
                        refine lv_goto (tgt := 245) hx hb dX0_mayClash_241 (by decide) ?_
                        exact W.zret (v := 1) hx hb hr rfl (fun t ht hW => ⟨1, rfl, fun z => absurd z (by decide), ht⟩) (fun _ h => absurd h List.not_mem_nil) dX0_mayClash_245
                      · have hal := hk16 c_4
                        obtain ⟨gn, eg, hgn⟩ := hg14
                        obtain ⟨wn, ew, hwn⟩ := hw15
                        have hwn0 := mc_w0 ew hwn hs6 hal.1
                        refine lv_iload hx hb dX0_mayClash_223 (lv_at hl 2 rfl) ?_
                        refine lv_iload hx hb dX0_mayClash_225 (lv_at hl 1 rfl) ?_
                        refine lv_if_le (tgt := 235) hx hb dX0_mayClash_227 (by decide) (fun c_5 => ?_) (fun c_5 => ?_)
                        · exact absurd c_5 (mc_le0 hal.1)
                        · refine lv_iload hx hb dX0_mayClash_230 (lv_at hl 1 rfl) ?_
                          refine lv_goto (tgt := 236) hx hb dX0_mayClash_232 (by decide) ?_
                          refine lv_irem hx hb dX0_mayClash_236 (mc_n0 hal.1) ?_
                          refine lv_if_ne (tgt := 244) hx hb dX0_mayClash_237 (by decide) (fun c_6 => ?_) (fun c_6 => ?_)
                          · refine lv_iconst (v := 0) hx hb dX0_mayClash_244 (by decide) ?_
                            exact W.zret (v := 0) hx hb hr rfl (fun t ht hW => ⟨0, rfl, fun _ => hgoal (mc_e3 hs6 hs7 hwn hal.2 hgn (mc_rem eg ew hgn hr4 hr5 hwn0.1 hwn0.2 c_6)), ht⟩) (fun _ h => absurd h List.not_mem_nil) dX0_mayClash_245
                          · refine lv_iconst (v := 1) hx hb dX0_mayClash_240 (by decide) ?_
                            refine lv_goto (tgt := 245) hx hb dX0_mayClash_241 (by decide) ?_
                            exact W.zret (v := 1) hx hb hr rfl (fun t ht hW => ⟨1, rfl, fun z => absurd z (by decide), ht⟩) (fun _ h => absurd h List.not_mem_nil) dX0_mayClash_245
                    · refine lv_iload hx hb dX0_mayClash_190 (lv_at hl 0 rfl) ?_
                      refine lv_iconst (v := 1) hx hb dX0_mayClash_192 (by decide) ?_
                      refine lv_icmp_le (tgt := 215) hx hb dX0_mayClash_193 (by decide) (fun c_7 => ?_) (fun c_7 => ?_)
                      · refine lv_iconst (v := 0) hx hb dX0_mayClash_215 (by decide) ?_
                        exact K 0 (fun z => absurd rfl z)
                      · refine lv_iload hx hb dX0_mayClash_196 (lv_at hl 9 rfl) ?_
                        refine lv_iload hx hb dX0_mayClash_198 (lv_at hl 8 rfl) ?_
                        refine lv_icmp_eq (tgt := 211) hx hb dX0_mayClash_200 (by decide) (fun c_8 => ?_) (fun c_8 => ?_)
                        · refine lv_iconst (v := 1) hx hb dX0_mayClash_211 (by decide) ?_
                          refine lv_goto (tgt := 216) hx hb dX0_mayClash_212 (by decide) ?_
                          exact K 1 (fun _ => ⟨fa_of_nle c_7, Or.inl c_8⟩)
                        · refine lv_iload hx hb dX0_mayClash_203 (lv_at hl 9 rfl) ?_
                          refine lv_iload hx hb dX0_mayClash_205 (lv_at hl 8 rfl) ?_
                          refine lv_ineg hx hb dX0_mayClash_207 ?_
                          refine lv_icmp_ne (tgt := 215) hx hb dX0_mayClash_208 (by decide) (fun c_9 => ?_) (fun c_9 => ?_)
                          · refine lv_iconst (v := 0) hx hb dX0_mayClash_215 (by decide) ?_
                            exact K 0 (fun z => absurd rfl z)
                          · refine lv_iconst (v := 1) hx hb dX0_mayClash_211 (by decide) ?_
                            refine lv_goto (tgt := 216) hx hb dX0_mayClash_212 (by decide) ?_
                            exact K 1 (fun _ => ⟨fa_of_nle c_7, Or.inr c_9⟩)
                  · refine lv_iload hx hb dX0_mayClash_175 (lv_at hl 8 rfl) ?_
                    refine lv_if_ge (tgt := 186) hx hb dX0_mayClash_177 (by decide) (fun c_10 => ?_) (fun c_10 => ?_)
                    · refine lv_iload hx hb dX0_mayClash_186 (lv_at hl 8 rfl) ?_
                      exact K a6 (mc_wid1 c_10 hs6)
                    · refine lv_iload hx hb dX0_mayClash_180 (lv_at hl 8 rfl) ?_
                      refine lv_ineg hx hb dX0_mayClash_182 ?_
                      refine lv_goto (tgt := 188) hx hb dX0_mayClash_183 (by decide) ?_
                      exact K (-a6) (mc_wid2 c_10 hs6)
                · refine lv_iload hx hb dX0_mayClash_153 (lv_at hl 9 rfl) ?_
                  refine lv_iload hx hb dX0_mayClash_155 (lv_at hl 8 rfl) ?_
                  refine lv_icmp_ge (tgt := 168) hx hb dX0_mayClash_157 (by decide) (fun c_11 => ?_) (fun c_11 => ?_)
                  · refine lv_iload hx hb dX0_mayClash_168 (lv_at hl 9 rfl) ?_
                    refine lv_iload hx hb dX0_mayClash_170 (lv_at hl 8 rfl) ?_
                    refine lv_isub hx hb dX0_mayClash_172 ?_
                    exact K (a4 - a5) (mc_gap1 c_11 hr4 hr5)
                  · refine lv_iload hx hb dX0_mayClash_160 (lv_at hl 8 rfl) ?_
                    refine lv_iload hx hb dX0_mayClash_162 (lv_at hl 9 rfl) ?_
                    refine lv_isub hx hb dX0_mayClash_164 ?_
                    refine lv_goto (tgt := 173) hx hb dX0_mayClash_165 (by decide) ?_
                    exact K (a5 - a4) (mc_gap2 c_11 hr4 hr5)
              · refine lv_iconst (v := 0) hx hb dX0_mayClash_151 (by decide) ?_
                exact W.zret (v := 0) hx hb hr rfl (fun t ht hW => ⟨0, rfl, fun _ => hgoal (mc_e2 (Or.inr (fa_of_nle c_3)) hs6 hs7 he8 he9 hv10 hv11 hv12 hv13), ht⟩) (fun _ h => absurd h List.not_mem_nil) dX0_mayClash_152
          · refine lv_iload hx hb dX0_mayClash_121 (lv_at hl 7 rfl) ?_
            refine lv_iload hx hb dX0_mayClash_123 (lv_at hl 3 rfl) ?_
            refine lv_icmp_ge (tgt := 133) hx hb dX0_mayClash_125 (by decide) (fun c_12 => ?_) (fun c_12 => ?_)
            · refine lv_iload hx hb dX0_mayClash_133 (lv_at hl 7 rfl) ?_
              exact K a5 (⟨Int32.le_refl _, c_12⟩)
            · refine lv_iload hx hb dX0_mayClash_128 (lv_at hl 3 rfl) ?_
              refine lv_goto (tgt := 135) hx hb dX0_mayClash_130 (by decide) ?_
              exact K a9 (⟨ha_nle c_12, Int32.le_refl _⟩)
        · refine lv_iload hx hb dX0_mayClash_105 (lv_at hl 6 rfl) ?_
          refine lv_iload hx hb dX0_mayClash_107 (lv_at hl 2 rfl) ?_
          refine lv_icmp_ge (tgt := 117) hx hb dX0_mayClash_109 (by decide) (fun c_13 => ?_) (fun c_13 => ?_)
          · refine lv_iload hx hb dX0_mayClash_117 (lv_at hl 2 rfl) ?_
            exact K a9 (⟨c_13, Int32.le_refl _⟩)
          · refine lv_iload hx hb dX0_mayClash_112 (lv_at hl 6 rfl) ?_
            refine lv_goto (tgt := 119) hx hb dX0_mayClash_114 (by decide) ?_
            exact K a5 (⟨Int32.le_refl _, ha_nle c_13⟩)
      · refine lv_iload hx hb dX0_mayClash_89 (lv_at hl 6 rfl) ?_
        refine lv_iload hx hb dX0_mayClash_91 (lv_at hl 2 rfl) ?_
        refine lv_icmp_ge (tgt := 101) hx hb dX0_mayClash_93 (by decide) (fun c_14 => ?_) (fun c_14 => ?_)
        · refine lv_iload hx hb dX0_mayClash_101 (lv_at hl 6 rfl) ?_
          exact K a4 (⟨Int32.le_refl _, c_14⟩)
        · refine lv_iload hx hb dX0_mayClash_96 (lv_at hl 2 rfl) ?_
          refine lv_goto (tgt := 103) hx hb dX0_mayClash_98 (by decide) ?_
          exact K a8 (⟨ha_nle c_14, Int32.le_refl _⟩)
    · refine lv_iload hx hb dX0_mayClash_73 (lv_at hl 5 rfl) ?_
      refine lv_iload hx hb dX0_mayClash_75 (lv_at hl 1 rfl) ?_
      refine lv_icmp_ge (tgt := 85) hx hb dX0_mayClash_77 (by decide) (fun c_15 => ?_) (fun c_15 => ?_)
      · refine lv_iload hx hb dX0_mayClash_85 (lv_at hl 1 rfl) ?_
        exact K a8 (⟨c_15, Int32.le_refl _⟩)
      · refine lv_iload hx hb dX0_mayClash_80 (lv_at hl 5 rfl) ?_
        refine lv_goto (tgt := 87) hx hb dX0_mayClash_82 (by decide) ?_
        exact K a4 (⟨Int32.le_refl _, ha_nle c_15⟩)
  · refine lv_iload hx hb dX0_mayClash_33 (lv_at hl 1 rfl) ?_
    refine lv_iload hx hb dX0_mayClash_35 (lv_at hl 0 rfl) ?_
    refine lv_icmp_ne (tgt := 51) hx hb dX0_mayClash_37 (by decide) (fun c_16 => ?_) (fun c_16 => ?_)
    · refine lv_iload hx hb dX0_mayClash_51 (lv_at hl 3 rfl) ?_
      refine lv_iload hx hb dX0_mayClash_53 (lv_at hl 1 rfl) ?_
      refine lv_iload_n hx hb dX0_mayClash_55 rfl (lv_at hl 7 rfl) ?_
      refine lv_iconst (v := 1) hx hb dX0_mayClash_56 (by decide) ?_
      refine lv_isub hx hb dX0_mayClash_57 ?_
      refine lv_imul hx hb dX0_mayClash_58 ?_
      refine lv_iadd hx hb dX0_mayClash_59 ?_
      refine lv_topi (fun a8 ea8 => ?_)
      refine lv_istore (lv' := [(8, .int a8), (7, .int a7), (6, .int a6), (5, .int a5), (4, .int a4), (0, .ref h), (1, .int p0), (2, .int p1), (3, .int (nI T))]) hx hb dX0_mayClash_60 hl (by decide) rfl (fun ls hl => ?_)
      refine lv_iload hx hb dX0_mayClash_62 (lv_at hl 3 rfl) ?_
      refine lv_iload hx hb dX0_mayClash_64 (lv_at hl 1 rfl) ?_
      refine lv_iload_n hx hb dX0_mayClash_66 rfl (lv_at hl 8 rfl) ?_
      refine lv_iconst (v := 1) hx hb dX0_mayClash_67 (by decide) ?_
      refine lv_isub hx hb dX0_mayClash_68 ?_
      refine lv_imul hx hb dX0_mayClash_69 ?_
      refine lv_iadd hx hb dX0_mayClash_70 ?_
      refine lv_topi (fun a9 ea9 => ?_)
      refine lv_istore (lv' := [(9, .int a9), (8, .int a8), (7, .int a7), (6, .int a6), (5, .int a5), (4, .int a4), (0, .ref h), (1, .int p0), (2, .int p1), (3, .int (nI T))]) hx hb dX0_mayClash_71 hl (by decide) rfl (fun ls hl => ?_)
      have he8 : a8.toInt = a4.toInt + a6.toInt * ((T : Int) - 1) := by rw [ea8]; exact xEnd hr4.1 hr4.2 hs6 hT1 hT2
      have he9 : a9.toInt = a5.toInt + a7.toInt * ((T : Int) - 1) := by rw [ea9]; exact xEnd hr5.1 hr5.2 hs7 hT1 hT2
      refine ha_join (α := Int32) (P := fun v10 => (v10 ≤ a4 ∧ v10 ≤ a8)) (g := fun v10 => F0 m 87 ls [.int v10]) (fun v10 hv10 => ?_) (fun K => ?_)
      · have hv10 : (v10 ≤ a4 ∧ v10 ≤ a8) := hv10
        refine lv_istore (lv' := [(10, .int v10), (9, .int a9), (8, .int a8), (7, .int a7), (6, .int a6), (5, .int a5), (4, .int a4), (0, .ref h), (1, .int p0), (2, .int p1), (3, .int (nI T))]) hx hb dX0_mayClash_87 hl (by decide) rfl (fun ls hl => ?_)
        refine ha_join (α := Int32) (P := fun v11 => (a4 ≤ v11 ∧ a8 ≤ v11)) (g := fun v11 => F0 m 103 ls [.int v11]) (fun v11 hv11 => ?_) (fun K => ?_)
        · have hv11 : (a4 ≤ v11 ∧ a8 ≤ v11) := hv11
          refine lv_istore (lv' := [(11, .int v11), (10, .int v10), (9, .int a9), (8, .int a8), (7, .int a7), (6, .int a6), (5, .int a5), (4, .int a4), (0, .ref h), (1, .int p0), (2, .int p1), (3, .int (nI T))]) hx hb dX0_mayClash_103 hl (by decide) rfl (fun ls hl => ?_)
          refine ha_join (α := Int32) (P := fun v12 => (v12 ≤ a5 ∧ v12 ≤ a9)) (g := fun v12 => F0 m 119 ls [.int v12]) (fun v12 hv12 => ?_) (fun K => ?_)
          · have hv12 : (v12 ≤ a5 ∧ v12 ≤ a9) := hv12
            refine lv_istore (lv' := [(12, .int v12), (11, .int v11), (10, .int v10), (9, .int a9), (8, .int a8), (7, .int a7), (6, .int a6), (5, .int a5), (4, .int a4), (0, .ref h), (1, .int p0), (2, .int p1), (3, .int (nI T))]) hx hb dX0_mayClash_119 hl (by decide) rfl (fun ls hl => ?_)
            refine ha_join (α := Int32) (P := fun v13 => (a5 ≤ v13 ∧ a9 ≤ v13)) (g := fun v13 => F0 m 135 ls [.int v13]) (fun v13 hv13 => ?_) (fun K => ?_)
            · have hv13 : (a5 ≤ v13 ∧ a9 ≤ v13) := hv13
              refine lv_istore (lv' := [(13, .int v13), (12, .int v12), (11, .int v11), (10, .int v10), (9, .int a9), (8, .int a8), (7, .int a7), (6, .int a6), (5, .int a5), (4, .int a4), (0, .ref h), (1, .int p0), (2, .int p1), (3, .int (nI T))]) hx hb dX0_mayClash_135 hl (by decide) rfl (fun ls hl => ?_)
              refine lv_iload hx hb dX0_mayClash_137 (lv_at hl 2 rfl) ?_
              refine lv_iload hx hb dX0_mayClash_139 (lv_at hl 1 rfl) ?_
              refine lv_icmp_lt (tgt := 151) hx hb dX0_mayClash_141 (by decide) (fun c_17 => ?_) (fun c_17 => ?_)
              · refine lv_iconst (v := 0) hx hb dX0_mayClash_151 (by decide) ?_
                exact W.zret (v := 0) hx hb hr rfl (fun t ht hW => ⟨0, rfl, fun _ => hgoal (mc_e2 (Or.inl c_17) hs6 hs7 he8 he9 hv10 hv11 hv12 hv13), ht⟩) (fun _ h => absurd h List.not_mem_nil) dX0_mayClash_152
              · refine lv_iload hx hb dX0_mayClash_144 (lv_at hl 0 rfl) ?_
                refine lv_iload hx hb dX0_mayClash_146 (lv_at hl 3 rfl) ?_
                refine lv_icmp_ge (tgt := 153) hx hb dX0_mayClash_148 (by decide) (fun c_18 => ?_) (fun c_18 => ?_)
                · refine ha_join (α := Int32) (P := fun g14 => ∃ g : Nat, g14 = nI g ∧ ((g : Int) = a4.toInt - a5.toInt ∨ (g : Int) = a5.toInt - a4.toInt)) (g := fun g14 => F0 m 173 ls [.int g14]) (fun g14 hg14 => ?_) (fun K => ?_)
                  · have hg14 : ∃ g : Nat, g14 = nI g ∧ ((g : Int) = a4.toInt - a5.toInt ∨ (g : Int) = a5.toInt - a4.toInt) := hg14
                    refine lv_istore (lv' := [(14, .int g14), (13, .int v13), (12, .int v12), (11, .int v11), (10, .int v10), (9, .int a9), (8, .int a8), (7, .int a7), (6, .int a6), (5, .int a5), (4, .int a4), (0, .ref h), (1, .int p0), (2, .int p1), (3, .int (nI T))]) hx hb dX0_mayClash_173 hl (by decide) rfl (fun ls hl => ?_)
                    refine ha_join (α := Int32) (P := fun w15 => ∃ w : Nat, w15 = nI w ∧ ((w : Int) = a6.toInt ∨ (w : Int) = -a6.toInt)) (g := fun w15 => F0 m 188 ls [.int w15]) (fun w15 hw15 => ?_) (fun K => ?_)
                    · have hw15 : ∃ w : Nat, w15 = nI w ∧ ((w : Int) = a6.toInt ∨ (w : Int) = -a6.toInt) := hw15
                      refine lv_istore (lv' := [(15, .int w15), (14, .int g14), (13, .int v13), (12, .int v12), (11, .int v11), (10, .int v10), (9, .int a9), (8, .int a8), (7, .int a7), (6, .int a6), (5, .int a5), (4, .int a4), (0, .ref h), (1, .int p0), (2, .int p1), (3, .int (nI T))]) hx hb dX0_mayClash_188 hl (by decide) rfl (fun ls hl => ?_)
                      refine ha_join (α := Int32) (P := fun k16 => ¬ k16 = 0 → 1 < w15 ∧ (a6 = a7 ∨ a6 = -a7)) (g := fun k16 => F0 m 216 ls [.int k16]) (fun k16 hk16 => ?_) (fun K => ?_)
                      · have hk16 : ¬ k16 = 0 → 1 < w15 ∧ (a6 = a7 ∨ a6 = -a7) := hk16
                        refine lv_istore (lv' := [(16, .int k16), (15, .int w15), (14, .int g14), (13, .int v13), (12, .int v12), (11, .int v11), (10, .int v10), (9, .int a9), (8, .int a8), (7, .int a7), (6, .int a6), (5, .int a5), (4, .int a4), (0, .ref h), (1, .int p0), (2, .int p1), (3, .int (nI T))]) hx hb dX0_mayClash_216 hl (by decide) rfl (fun ls hl => ?_)
                        refine lv_iload hx hb dX0_mayClash_218 (lv_at hl 0 rfl) ?_
                        refine lv_if_eq (tgt := 240) hx hb dX0_mayClash_220 (by decide) (fun c_19 => ?_) (fun c_19 => ?_)
                        · refine lv_iconst (v := 1) hx hb dX0_mayClash_240 (by decide) ?_
                          refine lv_goto (tgt := 245) hx hb dX0_mayClash_241 (by decide) ?_
                          exact W.zret (v := 1) hx hb hr rfl (fun t ht hW => ⟨1, rfl, fun z => absurd z (by decide), ht⟩) (fun _ h => absurd h List.not_mem_nil) dX0_mayClash_245
                        · have hal := hk16 c_19
                          obtain ⟨gn, eg, hgn⟩ := hg14
                          obtain ⟨wn, ew, hwn⟩ := hw15
                          have hwn0 := mc_w0 ew hwn hs6 hal.1
                          refine lv_iload hx hb dX0_mayClash_223 (lv_at hl 2 rfl) ?_
                          refine lv_iload hx hb dX0_mayClash_225 (lv_at hl 1 rfl) ?_
                          refine lv_if_le (tgt := 235) hx hb dX0_mayClash_227 (by decide) (fun c_20 => ?_) (fun c_20 => ?_)
                          · exact absurd c_20 (mc_le0 hal.1)
                          · refine lv_iload hx hb dX0_mayClash_230 (lv_at hl 1 rfl) ?_
                            refine lv_goto (tgt := 236) hx hb dX0_mayClash_232 (by decide) ?_
                            refine lv_irem hx hb dX0_mayClash_236 (mc_n0 hal.1) ?_
                            refine lv_if_ne (tgt := 244) hx hb dX0_mayClash_237 (by decide) (fun c_21 => ?_) (fun c_21 => ?_)
                            · refine lv_iconst (v := 0) hx hb dX0_mayClash_244 (by decide) ?_
                              exact W.zret (v := 0) hx hb hr rfl (fun t ht hW => ⟨0, rfl, fun _ => hgoal (mc_e3 hs6 hs7 hwn hal.2 hgn (mc_rem eg ew hgn hr4 hr5 hwn0.1 hwn0.2 c_21)), ht⟩) (fun _ h => absurd h List.not_mem_nil) dX0_mayClash_245
                            · refine lv_iconst (v := 1) hx hb dX0_mayClash_240 (by decide) ?_
                              refine lv_goto (tgt := 245) hx hb dX0_mayClash_241 (by decide) ?_
                              exact W.zret (v := 1) hx hb hr rfl (fun t ht hW => ⟨1, rfl, fun z => absurd z (by decide), ht⟩) (fun _ h => absurd h List.not_mem_nil) dX0_mayClash_245
                      · refine lv_iload hx hb dX0_mayClash_190 (lv_at hl 0 rfl) ?_
                        refine lv_iconst (v := 1) hx hb dX0_mayClash_192 (by decide) ?_
                        refine lv_icmp_le (tgt := 215) hx hb dX0_mayClash_193 (by decide) (fun c_22 => ?_) (fun c_22 => ?_)
                        · refine lv_iconst (v := 0) hx hb dX0_mayClash_215 (by decide) ?_
                          exact K 0 (fun z => absurd rfl z)
                        · refine lv_iload hx hb dX0_mayClash_196 (lv_at hl 9 rfl) ?_
                          refine lv_iload hx hb dX0_mayClash_198 (lv_at hl 8 rfl) ?_
                          refine lv_icmp_eq (tgt := 211) hx hb dX0_mayClash_200 (by decide) (fun c_23 => ?_) (fun c_23 => ?_)
                          · refine lv_iconst (v := 1) hx hb dX0_mayClash_211 (by decide) ?_
                            refine lv_goto (tgt := 216) hx hb dX0_mayClash_212 (by decide) ?_
                            exact K 1 (fun _ => ⟨fa_of_nle c_22, Or.inl c_23⟩)
                          · refine lv_iload hx hb dX0_mayClash_203 (lv_at hl 9 rfl) ?_
                            refine lv_iload hx hb dX0_mayClash_205 (lv_at hl 8 rfl) ?_
                            refine lv_ineg hx hb dX0_mayClash_207 ?_
                            refine lv_icmp_ne (tgt := 215) hx hb dX0_mayClash_208 (by decide) (fun c_24 => ?_) (fun c_24 => ?_)
                            · refine lv_iconst (v := 0) hx hb dX0_mayClash_215 (by decide) ?_
                              exact K 0 (fun z => absurd rfl z)
                            · refine lv_iconst (v := 1) hx hb dX0_mayClash_211 (by decide) ?_
                              refine lv_goto (tgt := 216) hx hb dX0_mayClash_212 (by decide) ?_
                              exact K 1 (fun _ => ⟨fa_of_nle c_22, Or.inr c_24⟩)
                    · refine lv_iload hx hb dX0_mayClash_175 (lv_at hl 8 rfl) ?_
                      refine lv_if_ge (tgt := 186) hx hb dX0_mayClash_177 (by decide) (fun c_25 => ?_) (fun c_25 => ?_)
                      · refine lv_iload hx hb dX0_mayClash_186 (lv_at hl 8 rfl) ?_
                        exact K a6 (mc_wid1 c_25 hs6)
                      · refine lv_iload hx hb dX0_mayClash_180 (lv_at hl 8 rfl) ?_
                        refine lv_ineg hx hb dX0_mayClash_182 ?_
                        refine lv_goto (tgt := 188) hx hb dX0_mayClash_183 (by decide) ?_
                        exact K (-a6) (mc_wid2 c_25 hs6)
                  · refine lv_iload hx hb dX0_mayClash_153 (lv_at hl 9 rfl) ?_
                    refine lv_iload hx hb dX0_mayClash_155 (lv_at hl 8 rfl) ?_
                    refine lv_icmp_ge (tgt := 168) hx hb dX0_mayClash_157 (by decide) (fun c_26 => ?_) (fun c_26 => ?_)
                    · refine lv_iload hx hb dX0_mayClash_168 (lv_at hl 9 rfl) ?_
                      refine lv_iload hx hb dX0_mayClash_170 (lv_at hl 8 rfl) ?_
                      refine lv_isub hx hb dX0_mayClash_172 ?_
                      exact K (a4 - a5) (mc_gap1 c_26 hr4 hr5)
                    · refine lv_iload hx hb dX0_mayClash_160 (lv_at hl 8 rfl) ?_
                      refine lv_iload hx hb dX0_mayClash_162 (lv_at hl 9 rfl) ?_
                      refine lv_isub hx hb dX0_mayClash_164 ?_
                      refine lv_goto (tgt := 173) hx hb dX0_mayClash_165 (by decide) ?_
                      exact K (a5 - a4) (mc_gap2 c_26 hr4 hr5)
                · refine lv_iconst (v := 0) hx hb dX0_mayClash_151 (by decide) ?_
                  exact W.zret (v := 0) hx hb hr rfl (fun t ht hW => ⟨0, rfl, fun _ => hgoal (mc_e2 (Or.inr (fa_of_nle c_18)) hs6 hs7 he8 he9 hv10 hv11 hv12 hv13), ht⟩) (fun _ h => absurd h List.not_mem_nil) dX0_mayClash_152
            · refine lv_iload hx hb dX0_mayClash_121 (lv_at hl 7 rfl) ?_
              refine lv_iload hx hb dX0_mayClash_123 (lv_at hl 3 rfl) ?_
              refine lv_icmp_ge (tgt := 133) hx hb dX0_mayClash_125 (by decide) (fun c_27 => ?_) (fun c_27 => ?_)
              · refine lv_iload hx hb dX0_mayClash_133 (lv_at hl 7 rfl) ?_
                exact K a5 (⟨Int32.le_refl _, c_27⟩)
              · refine lv_iload hx hb dX0_mayClash_128 (lv_at hl 3 rfl) ?_
                refine lv_goto (tgt := 135) hx hb dX0_mayClash_130 (by decide) ?_
                exact K a9 (⟨ha_nle c_27, Int32.le_refl _⟩)
          · refine lv_iload hx hb dX0_mayClash_105 (lv_at hl 6 rfl) ?_
            refine lv_iload hx hb dX0_mayClash_107 (lv_at hl 2 rfl) ?_
            refine lv_icmp_ge (tgt := 117) hx hb dX0_mayClash_109 (by decide) (fun c_28 => ?_) (fun c_28 => ?_)
            · refine lv_iload hx hb dX0_mayClash_117 (lv_at hl 2 rfl) ?_
              exact K a9 (⟨c_28, Int32.le_refl _⟩)
            · refine lv_iload hx hb dX0_mayClash_112 (lv_at hl 6 rfl) ?_
              refine lv_goto (tgt := 119) hx hb dX0_mayClash_114 (by decide) ?_
              exact K a5 (⟨Int32.le_refl _, ha_nle c_28⟩)
        · refine lv_iload hx hb dX0_mayClash_89 (lv_at hl 6 rfl) ?_
          refine lv_iload hx hb dX0_mayClash_91 (lv_at hl 2 rfl) ?_
          refine lv_icmp_ge (tgt := 101) hx hb dX0_mayClash_93 (by decide) (fun c_29 => ?_) (fun c_29 => ?_)
          · refine lv_iload hx hb dX0_mayClash_101 (lv_at hl 6 rfl) ?_
            exact K a4 (⟨Int32.le_refl _, c_29⟩)
          · refine lv_iload hx hb dX0_mayClash_96 (lv_at hl 2 rfl) ?_
            refine lv_goto (tgt := 103) hx hb dX0_mayClash_98 (by decide) ?_
            exact K a8 (⟨ha_nle c_29, Int32.le_refl _⟩)
      · refine lv_iload hx hb dX0_mayClash_73 (lv_at hl 5 rfl) ?_
        refine lv_iload hx hb dX0_mayClash_75 (lv_at hl 1 rfl) ?_
        refine lv_icmp_ge (tgt := 85) hx hb dX0_mayClash_77 (by decide) (fun c_30 => ?_) (fun c_30 => ?_)
        · refine lv_iload hx hb dX0_mayClash_85 (lv_at hl 1 rfl) ?_
          exact K a8 (⟨c_30, Int32.le_refl _⟩)
        · refine lv_iload hx hb dX0_mayClash_80 (lv_at hl 5 rfl) ?_
          refine lv_goto (tgt := 87) hx hb dX0_mayClash_82 (by decide) ?_
          exact K a4 (⟨Int32.le_refl _, ha_nle c_30⟩)
    · refine lv_iload hx hb dX0_mayClash_40 (lv_at hl 1 rfl) ?_
      refine lv_if_ne (tgt := 49) hx hb dX0_mayClash_42 (by decide) (fun c_31 => ?_) (fun c_31 => ?_)
      · refine lv_iconst (v := 0) hx hb dX0_mayClash_49 (by decide) ?_
        exact W.zret (v := 0) hx hb hr rfl (fun t ht hW => ⟨0, rfl, fun _ => hgoal (mc_e1 c_1 c_16 hs6 c_31), ht⟩) (fun _ h => absurd h List.not_mem_nil) dX0_mayClash_50
      · refine lv_iconst (v := 1) hx hb dX0_mayClash_45 (by decide) ?_
        refine lv_goto (tgt := 50) hx hb dX0_mayClash_46 (by decide) ?_
        exact W.zret (v := 1) hx hb hr rfl (fun t ht hW => ⟨1, rfl, fun z => absurd z (by decide), ht⟩) (fun _ h => absurd h List.not_mem_nil) dX0_mayClash_50
end
section
set_option maxHeartbeats 4000000 in
set_option maxRecDepth 100000 in
/-- isSafe: true only where rounds may be moved -/
theorem metX0_isSafe (l : Launch) (dC : Nat → ClassId) (dI : Nat → Nat → Nat) (dA dZ : ClassId) (h : Nat) (q : Nat → Nat) (mem bs ops tg sr sc la lb ur uw : ha_F) (us sm : Int32) (sz n T : Nat) (hn : n ≤ 5) (hT1 : 1 ≤ T) (hT2 : T ≤ 40) : Met l yX0_isSafe (ws_ yX0_isSafe cX0_isSafe 5 (some .boolean)) ({ frames := 2, cells := 0, slots := 0, locals := 57 }) (ha_M dC dI [.ref h, .int (nI T)] sz (xw dA dZ h q mem bs ops tg sr sc la lb ur uw (nI n) us sm) (xT dA dZ)) (va_Qi (S := ha_F × ha_F × Int32) (fun (r : Int32) (_ : ha_F × ha_F × Int32) => ¬ r = 0 → SF bs ops tg sr sc n T) (fun y t => ha_B dC dI (va_A (xw dA dZ h q mem bs ops tg sr sc la lb ur uw (nI n) us sm) sz) (xw dA dZ h q mem bs ops tg sr sc la lb y.1 y.2.1 (nI n) y.2.2 sm) (xT dA dZ) t) (va_A (xw dA dZ h q mem bs ops tg sr sc la lb ur uw (nI n) us sm) sz)) 0 0 (va_A (xw dA dZ h q mem bs ops tg sr sc la lb ur uw (nI n) us sm) sz) := by
  refine Met.ofW (cc := cX0_isSafe) (maxL := 5) (ret := (some .boolean)) (by decide) rfl ?_
  intro p e s m args below meth c s₁ B hml hv
  obtain ⟨rfl, hsz, hP, hK, hD0⟩ := hv
  have hx := B.exec
  have hb := B.bytes
  have hr := B.returns
  have hts := atoms_spec (ws := ws_ yX0_isSafe cX0_isSafe 5 (some .boolean)) B.pre
  have hts : ∀ w ∈ lw_all, w.before _ s = true := fun w h => hts w (List.mem_cons_of_mem _ h)
  have hown : s.vm.findClass RX0 = some m.cls := findClass_of_methodNamed B.named
  have hlocks := B.notSynchronized
  subst hsz
  have hD := hD0.self (sz := s.heap.size)
  generalize hAe : va_A (xw dA dZ h q mem bs ops tg sr sc la lb ur uw (nI n) us sm) s.heap.size = A at hD ⊢
  have hA : ∀ q : Nat, s.heap.size ≤ q → A q := fun q h => by rw [← hAe]; exact Or.inr h
  have hS : va_S A s.heap s.heap [] := va_S.rf
  have hD : va_D A (xw dA dZ h q mem bs ops tg sr sc la lb ur uw (nI n) us sm) := hD
  have hP : va_P (dC, dI) vwCl (xw dA dZ h q mem bs ops tg sr sc la lb ur uw (nI n) us sm) s.heap := hP
  have hl := lv_entry ([.ref h, .int (nI T)]) (n := 5) (Nat.le_of_ble_eq_true rfl)
  rw [lg_entry_eq]
  generalize (lg_sl ([.ref h, .int (nI T)]) ++ List.replicate (5 - (lg_sl ([.ref h, .int (nI T)])).length) Slot.unset).toArray = ls at hl ⊢
  have hl : lv_has ls 5 [(0, .ref h), (1, .int (nI T))] := hl
  refine lv_aload_n hx hb dX0_isSafe_0 rfl (lv_at hl 0 rfl) ?_
  have hFc := va_free (wc := xw dA dZ h q mem bs ops tg sr sc la lb ur uw (nI n) us sm) hD hS hA [0, 1, 2, 3, 4, 5, 6, 7, 8, 9, 10] rfl
  refine va_callv (va_runV (As := []) (rest := []) ⟨hx, hb, hml, hown, hts⟩ (metX0_listUses l dC dI dA dZ h q mem bs ops tg sr sc la lb ur uw us sm s.heap.size n hn) (cwV 0 hts (lw_V q100 q102 qs1 q14 q103) rfl rfl rfl (by decide +kernel) ⟨Nat.le_of_ble_eq_true rfl, Nat.le_of_ble_eq_true rfl⟩) ⟨ha_M_blind, va_recv hK hP (ci := 0) (q0 := 0) rfl rfl, fun U hU hW => ⟨rfl, by rw [hU], by rw [hU]; exact hP, va_K.moved hW.alike hK, hD.weaken (fun _ _ _ _ => trivial)⟩⟩ rfl rfl hl.1 rfl (lv_room (Nat.le_of_ble_eq_true rfl)) dX0_isSafe_1 ⟨Nat.le_of_ble_eq_true rfl, Nat.le_of_ble_eq_true rfl⟩) hS (fun q _ h => hFc q h) hFc (fun u_ t H1 locs ht hvm hw hB hz1 hk1 hS => ?_)
  obtain ⟨fr, fw⟩ := u_
  have hL : LU ops tg sr sc n fr fw := hw
  obtain ⟨hP1, hK1, hD1⟩ := hB
  rw [ht] at hP1
  have hK := va_K.moved hvm.symm hK1
  obtain ⟨hP, hD⟩ := va_join (wr := []) hP hD [0, 1, 2, 3, 4, 5, 6, 7, 8, 9, 10] [] rfl rfl (by decide) (by decide) hk1 hFc hP1 hD1
  generalize H1 = H at hP hS ⊢
  have hP : va_P (dC, dI) vwCl (xw dA dZ h q mem bs ops tg sr sc la lb fr fw (nI n) (nI (uOff ops n)) sm) H := hP
  have hD : va_D A (xw dA dZ h q mem bs ops tg sr sc la lb fr fw (nI n) (nI (uOff ops n)) sm) := hD
  have hK : va_K (dC, dI) vwCl (xT dA dZ) s := hK
  have hU15 : uOff ops n ≤ 15 := by have := uOff_le ops n; omega
  refine lv_iconst (v := 0) hx hb dX0_isSafe_4 (by decide) ?_
  refine lv_istore_n (lv' := [(2, .int 0), (0, .ref h), (1, .int (nI T))]) hx hb dX0_isSafe_5 rfl hl (by decide) rfl (fun ls hl => ?_)
  refine ha_loop (σ := Nat × Array Slot) (fun x => uOff ops n - x.1) (fun x => (x.1 ≤ uOff ops n) ∧ (∀ p, p < x.1 → xNW bs (fr p) T) ∧ (lv_has x.2 5 [(2, .int (nI (x.1))), (0, .ref h), (1, .int (nI T))])) (fun x => H) (fun x => locs) (fun x => F0 m 6 x.2 []) ?_ (0, ls) ⟨Nat.zero_le _, lt_0, lv_sub hl [0, 1, 2] rfl⟩
  rintro ⟨i, ls⟩ ⟨hi, hnw, hl⟩ ih
  have hi : i ≤ uOff ops n := hi
  have hnw : ∀ p, p < i → xNW bs (fr p) T := hnw
  have hl : lv_has ls 5 [(2, .int (nI i)), (0, .ref h), (1, .int (nI T))] := hl
  show W p l e _ s m _ below meth c H locs _ _ _ (F0 m 6 ls [])
  refine lv_iload_n hx hb dX0_isSafe_6 rfl (lv_at hl 0 rfl) ?_
  refine lv_aload_n hx hb dX0_isSafe_7 rfl (lv_at hl 1 rfl) ?_
  refine va_get (D := (dC, dI)) (ci := 0) (v := .int (nI (uOff ops n))) (C := RX0) (T := TX0) (N := 13) hx hb hts in_X0 hown hK hP 0 rfl rfl 11 (by decide) (hts _ q35) (fun _ h9 => h9) rfl dX0_isSafe_8 ?_
  refine lv_icmp_ge (tgt := 72) hx hb dX0_isSafe_11 (by decide) (fun c_1 => ?_) (fun c_1 => ?_)
  · have hiU : i = uOff ops n := by have z := (nI_leI (a := uOff ops n) (b := i) (by omega) (by omega)).mp c_1; omega
    rw [hiU] at hnw
    refine lv_iconst (v := 0) hx hb dX0_isSafe_72 (by decide) ?_
    refine lv_istore_n (lv' := [(2, .int 0), (0, .ref h), (1, .int (nI T))]) hx hb dX0_isSafe_73 rfl hl (by decide) rfl (fun ls hl => ?_)
    refine ha_loop (σ := Nat × Array Slot) (fun x => uOff ops n - x.1) (fun x => (x.1 ≤ uOff ops n) ∧ (∀ p, p < x.1 → ∀ q, q < uOff ops n → p ≠ q → ¬ fw p = 0 → xNC bs (fr p) (fr q) T) ∧ (lv_has x.2 5 [(2, .int (nI (x.1))), (0, .ref h), (1, .int (nI T))])) (fun x => H) (fun x => locs) (fun x => F0 m 74 x.2 []) ?_ (0, ls) ⟨Nat.zero_le _, lt_0, lv_sub hl [0, 1, 2] rfl⟩
    rintro ⟨i, ls⟩ ⟨hi, hpc, hl⟩ ih2
    have hi : i ≤ uOff ops n := hi
    have hpc : ∀ p, p < i → ∀ q, q < uOff ops n → p ≠ q → ¬ fw p = 0 → xNC bs (fr p) (fr q) T := hpc
    have hl : lv_has ls 5 [(2, .int (nI i)), (0, .ref h), (1, .int (nI T))] := hl
    show W p l e _ s m _ below meth c H locs _ _ _ (F0 m 74 ls [])
    refine lv_iload_n hx hb dX0_isSafe_74 rfl (lv_at hl 0 rfl) ?_
    refine lv_aload_n hx hb dX0_isSafe_75 rfl (lv_at hl 1 rfl) ?_
    refine va_get (D := (dC, dI)) (ci := 0) (v := .int (nI (uOff ops n))) (C := RX0) (T := TX0) (N := 13) hx hb hts in_X0 hown hK hP 0 rfl rfl 11 (by decide) (hts _ q35) (fun _ h9 => h9) rfl dX0_isSafe_76 ?_
    refine lv_icmp_ge (tgt := 140) hx hb dX0_isSafe_79 (by decide) (fun c_2 => ?_) (fun c_2 => ?_)
    · have hiU : i = uOff ops n := by have z := (nI_leI (a := uOff ops n) (b := i) (by omega) (by omega)).mp c_2; omega
      rw [hiU] at hpc
      refine lv_iconst (v := 1) hx hb dX0_isSafe_140 (by decide) ?_
      exact W.zret (v := 1) hx hb hr rfl (fun t ht hW => ⟨⟨1, (fr, fw, nI (uOff ops n)), rfl, fun _ => SF_of hT2 hL hnw hpc, by rw [ht]; exact hP, va_K.moved hW.alike hK, hD⟩, hS.F ht⟩) hS.2.2 dX0_isSafe_141
    · have hlt : i < uOff ops n := by rcases Nat.lt_or_ge i (uOff ops n) with z | z; exact z; exact absurd (nI_le z (by omega)) c_2
      refine lv_iconst (v := 0) hx hb dX0_isSafe_82 (by decide) ?_
      refine lv_istore_n (lv' := [(3, .int 0), (2, .int (nI i)), (0, .ref h), (1, .int (nI T))]) hx hb dX0_isSafe_83 rfl hl (by decide) rfl (fun ls hl => ?_)
      refine ha_loop (σ := Nat × Array Slot) (fun x => uOff ops n - x.1) (fun x => (x.1 ≤ uOff ops n) ∧ (∀ q, q < x.1 → i ≠ q → ¬ fw i = 0 → xNC bs (fr i) (fr q) T) ∧ (lv_has x.2 5 [(3, .int (nI (x.1))), (2, .int (nI i)), (0, .ref h), (1, .int (nI T))])) (fun x => H) (fun x => locs) (fun x => F0 m 84 x.2 []) ?_ (0, ls) ⟨Nat.zero_le _, lt_0, lv_sub hl [0, 1, 2, 3] rfl⟩
      rintro ⟨j, ls⟩ ⟨hj, hqj, hl⟩ ih3
      have hj : j ≤ uOff ops n := hj
      have hqj : ∀ q, q < j → i ≠ q → ¬ fw i = 0 → xNC bs (fr i) (fr q) T := hqj
      have hl : lv_has ls 5 [(3, .int (nI j)), (2, .int (nI i)), (0, .ref h), (1, .int (nI T))] := hl
      show W p l e _ s m _ below meth c H locs _ _ _ (F0 m 84 ls [])
      refine lv_iload_n hx hb dX0_isSafe_84 rfl (lv_at hl 0 rfl) ?_
      refine lv_aload_n hx hb dX0_isSafe_85 rfl (lv_at hl 2 rfl) ?_
      refine va_get (D := (dC, dI)) (ci := 0) (v := .int (nI (uOff ops n))) (C := RX0) (T := TX0) (N := 13) hx hb hts in_X0 hown hK hP 0 rfl rfl 11 (by decide) (hts _ q35) (fun _ h9 => h9) rfl dX0_isSafe_86 ?_
      refine lv_icmp_ge (tgt := 134) hx hb dX0_isSafe_89 (by decide) (fun c_3 => ?_) (fun c_3 => ?_)
      · have hqc : ∀ q, q < uOff ops n → i ≠ q → ¬ fw i = 0 → xNC bs (fr i) (fr q) T := by have z := (nI_leI (a := uOff ops n) (b := j) (by omega) (by omega)).mp c_3; rw [show uOff ops n = j by omega]; exact hqj
        refine lv_iinc (v := nI (i + 1)) (lv' := [(2, .int (nI (i + 1))), (3, .int (nI j)), (0, .ref h), (1, .int (nI T))]) hx hb dX0_isSafe_134 hl (k := 1) rfl (nI_1 i) (by decide) rfl (fun ls hl => ?_)
        refine lv_goto (tgt := 74) hx hb dX0_isSafe_137 (by decide) ?_
        exact ih2 (i + 1, ls) ⟨by omega, lt_s hpc hqc, lv_sub hl [0, 2, 3] rfl⟩ (by dsimp only; omega)
      · have hlt3 : j < uOff ops n := by rcases Nat.lt_or_ge j (uOff ops n) with z | z; exact z; exact absurd (nI_le z (by omega)) c_3
        refine lv_iload_n hx hb dX0_isSafe_92 rfl (lv_at hl 1 rfl) ?_
        refine lv_iload_n hx hb dX0_isSafe_93 rfl (lv_at hl 0 rfl) ?_
        refine lv_icmp_eq (tgt := 128) hx hb dX0_isSafe_94 (by decide) (fun c_4 => ?_) (fun c_4 => ?_)
        · refine lv_iinc (v := nI (j + 1)) (lv' := [(3, .int (nI (j + 1))), (2, .int (nI i)), (0, .ref h), (1, .int (nI T))]) hx hb dX0_isSafe_128 hl (k := 0) rfl (nI_1 j) (by decide) rfl (fun ls hl => ?_)
          refine lv_goto (tgt := 84) hx hb dX0_isSafe_131 (by decide) ?_
          exact ih3 (j + 1, ls) ⟨by omega, lt_s hqj (fun z => absurd ((nI_eq (by omega) (by omega)).mp c_4) z), lv_sub hl [0, 1, 2, 3] rfl⟩ (by dsimp only; omega)
        · refine lv_aload_n hx hb dX0_isSafe_97 rfl (lv_at hl 2 rfl) ?_
          refine va_get (D := (dC, dI)) (ci := 0) (v := .ref (q 9)) (C := RX0) (T := TX0) (N := 13) hx hb hts in_X0 hown hK hP 0 rfl rfl 9 (by decide) (hts _ q33) (fun _ h9 => h9) rfl dX0_isSafe_98 ?_
          refine lv_iload_n hx hb dX0_isSafe_101 rfl (lv_at hl 1 rfl) ?_
          refine ha_zld hx hb hK hP 10 1 rfl rfl i (rfl) (by omega) (by decide) dX0_isSafe_102 ?_
          refine lv_if_eq (tgt := 128) hx hb dX0_isSafe_103 (by decide) (fun c_5 => ?_) (fun c_5 => ?_)
          · refine lv_iinc (v := nI (j + 1)) (lv' := [(3, .int (nI (j + 1))), (2, .int (nI i)), (0, .ref h), (1, .int (nI T))]) hx hb dX0_isSafe_128 hl (k := 0) rfl (nI_1 j) (by decide) rfl (fun ls hl => ?_)
            refine lv_goto (tgt := 84) hx hb dX0_isSafe_131 (by decide) ?_
            exact ih3 (j + 1, ls) ⟨by omega, lt_s hqj (fun _ z => absurd c_5 z), lv_sub hl [0, 1, 2, 3] rfl⟩ (by dsimp only; omega)
          · refine lv_aload_n hx hb dX0_isSafe_106 rfl (lv_at hl 2 rfl) ?_
            refine lv_aload_n hx hb dX0_isSafe_107 rfl (lv_at hl 2 rfl) ?_
            refine va_get (D := (dC, dI)) (ci := 0) (v := .ref (q 8)) (C := RX0) (T := TX0) (N := 13) hx hb hts in_X0 hown hK hP 0 rfl rfl 8 (by decide) (hts _ q32) (fun _ h9 => h9) rfl dX0_isSafe_108 ?_
            refine lv_iload_n hx hb dX0_isSafe_111 rfl (lv_at hl 1 rfl) ?_
            refine ha_ld hx hb hK hP 9 0 rfl rfl i (rfl) (by omega) (by decide) dX0_isSafe_112 ?_
            refine lv_aload_n hx hb dX0_isSafe_113 rfl (lv_at hl 2 rfl) ?_
            refine va_get (D := (dC, dI)) (ci := 0) (v := .ref (q 8)) (C := RX0) (T := TX0) (N := 13) hx hb hts in_X0 hown hK hP 0 rfl rfl 8 (by decide) (hts _ q32) (fun _ h9 => h9) rfl dX0_isSafe_114 ?_
            refine lv_iload_n hx hb dX0_isSafe_117 rfl (lv_at hl 0 rfl) ?_
            refine ha_ld hx hb hK hP 9 0 rfl rfl j (rfl) (by omega) (by decide) dX0_isSafe_118 ?_
            refine lv_iload_n hx hb dX0_isSafe_119 rfl (lv_at hl 3 rfl) ?_
            refine vp_callSi (W.runV (As := [.int (fr i), .int (fr j), .int (nI T)]) (rest := []) ⟨hx, hb, hml, hown, hts⟩ (metX0_mayClash l dC dI dA dZ h q mem bs ops tg sr sc la lb fr fw (nI n) (nI (uOff ops n)) sm (fr i) (fr j) T hT1 hT2 (hnw i (by omega)) (hnw j (by omega))) (cwV 3 hts (lw_V q115 q117 qs4 q14 q118) rfl rfl rfl (by decide +kernel) ⟨Nat.le_of_ble_eq_true rfl, Nat.le_of_ble_eq_true rfl⟩) ⟨ha_R_blind, va_recv hK hP (ci := 0) (q0 := 0) rfl rfl, fun U hU hW => ⟨rfl, by rw [hU]; exact hP, va_K.moved hW.alike hK⟩⟩ rfl rfl hl.1 rfl (lv_room (Nat.le_of_ble_eq_true rfl)) dX0_isSafe_120 ⟨Nat.le_of_ble_eq_true rfl, Nat.le_of_ble_eq_true rfl⟩) (fun r_ hw => ?_)
            have hb_6 : r_ = 0 → xNC bs (fr i) (fr j) T := hw
            clear hw
            generalize r_ = b_6 at hb_6 ⊢
            refine lv_if_eq (tgt := 128) hx hb dX0_isSafe_123 (by decide) (fun c_7 => ?_) (fun c_7 => ?_)
            · refine lv_iinc (v := nI (j + 1)) (lv' := [(3, .int (nI (j + 1))), (2, .int (nI i)), (0, .ref h), (1, .int (nI T))]) hx hb dX0_isSafe_128 hl (k := 0) rfl (nI_1 j) (by decide) rfl (fun ls hl => ?_)
              refine lv_goto (tgt := 84) hx hb dX0_isSafe_131 (by decide) ?_
              exact ih3 (j + 1, ls) ⟨by omega, lt_s hqj (fun _ _ => hb_6 c_7), lv_sub hl [0, 1, 2, 3] rfl⟩ (by dsimp only; omega)
            · refine lv_iconst (v := 0) hx hb dX0_isSafe_126 (by decide) ?_
              exact W.zret (v := 0) hx hb hr rfl (fun t ht hW => ⟨⟨0, (fr, fw, nI (uOff ops n)), rfl, fun z => absurd rfl z, by rw [ht]; exact hP, va_K.moved hW.alike hK, hD⟩, hS.F ht⟩) hS.2.2 dX0_isSafe_127
  · have hlt : i < uOff ops n := by rcases Nat.lt_or_ge i (uOff ops n) with z | z; exact z; exact absurd (nI_le z (by omega)) c_1
    refine lv_aload_n hx hb dX0_isSafe_14 rfl (lv_at hl 1 rfl) ?_
    refine lv_aload_n hx hb dX0_isSafe_15 rfl (lv_at hl 1 rfl) ?_
    refine va_get (D := (dC, dI)) (ci := 0) (v := .ref (q 8)) (C := RX0) (T := TX0) (N := 13) hx hb hts in_X0 hown hK hP 0 rfl rfl 8 (by decide) (hts _ q32) (fun _ h9 => h9) rfl dX0_isSafe_16 ?_
    refine lv_iload_n hx hb dX0_isSafe_19 rfl (lv_at hl 0 rfl) ?_
    refine ha_ld hx hb hK hP 9 0 rfl rfl i (rfl) (by omega) (by decide) dX0_isSafe_20 ?_
    refine vp_callSi (W.runV (As := [.int (fr i)]) (rest := []) ⟨hx, hb, hml, hown, hts⟩ (metX0_startOf l dC dI dA dZ h q mem bs ops tg sr sc la lb fr fw (nI n) (nI (uOff ops n)) sm (fr i)) (cwV 1 hts (lw_V q108 q110 qs3 q14 q111) rfl rfl rfl (by decide +kernel) ⟨Nat.le_of_ble_eq_true rfl, Nat.le_of_ble_eq_true rfl⟩) ⟨ha_R_blind, va_recv hK hP (ci := 0) (q0 := 0) rfl rfl, fun U hU hW => ⟨rfl, by rw [hU]; exact hP, va_K.moved hW.alike hK⟩⟩ rfl rfl hl.1 rfl (lv_room (Nat.le_of_ble_eq_true rfl)) dX0_isSafe_21 ⟨Nat.le_of_ble_eq_true rfl, Nat.le_of_ble_eq_true rfl⟩) (fun r_ hw => ?_)
    have hw : r_ = xSt bs (fr i) := hw
    subst hw
    refine lv_istore_n (lv' := [(3, .int (xSt bs (fr i))), (2, .int (nI i)), (0, .ref h), (1, .int (nI T))]) hx hb dX0_isSafe_24 rfl hl (by decide) rfl (fun ls hl => ?_)
    refine lv_iload_n hx hb dX0_isSafe_25 rfl (lv_at hl 0 rfl) ?_
    refine lv_aload_n hx hb dX0_isSafe_26 rfl (lv_at hl 2 rfl) ?_
    refine va_get (D := (dC, dI)) (ci := 0) (v := .ref (q 8)) (C := RX0) (T := TX0) (N := 13) hx hb hts in_X0 hown hK hP 0 rfl rfl 8 (by decide) (hts _ q32) (fun _ h9 => h9) rfl dX0_isSafe_27 ?_
    refine lv_iload_n hx hb dX0_isSafe_30 rfl (lv_at hl 1 rfl) ?_
    refine ha_ld hx hb hK hP 9 0 rfl rfl i (rfl) (by omega) (by decide) dX0_isSafe_31 ?_
    refine vp_callSi (W.runS (As := [.int (fr i)]) (rest := [.int (xSt bs (fr i))]) ⟨hx, hb, hml, hown, hts⟩ (metX0_strideOf l (fr i)) (va_cwS 1 hts (lw_S q112 q113 q14 q114) rfl rfl rfl (by decide +kernel) ⟨Nat.le_of_ble_eq_true rfl, Nat.le_of_ble_eq_true rfl⟩) ⟨ha_N_blind, fun U hU hW => ⟨rfl, trivial⟩⟩ rfl rfl hl.1 rfl (lv_room (Nat.le_of_ble_eq_true rfl)) dX0_isSafe_32 ⟨Nat.le_of_ble_eq_true rfl, Nat.le_of_ble_eq_true rfl⟩) (fun r_ hw => ?_)
    have hw : r_ = xSd (fr i) := hw
    subst hw
    refine lv_iload_n hx hb dX0_isSafe_35 rfl (lv_at hl 3 rfl) ?_
    refine lv_iconst (v := 1) hx hb dX0_isSafe_36 (by decide) ?_
    refine lv_isub hx hb dX0_isSafe_37 ?_
    refine lv_imul hx hb dX0_isSafe_38 ?_
    refine lv_iadd hx hb dX0_isSafe_39 ?_
    refine lv_istore (lv' := [(4, .int ((xSt bs (fr i)) + ((xSd (fr i)) * ((nI T) - 1)))), (3, .int (xSt bs (fr i))), (2, .int (nI i)), (0, .ref h), (1, .int (nI T))]) hx hb dX0_isSafe_40 hl (by decide) rfl (fun ls hl => ?_)
    refine lv_iload_n hx hb dX0_isSafe_42 rfl (lv_at hl 1 rfl) ?_
    refine lv_if_lt (tgt := 64) hx hb dX0_isSafe_43 (by decide) (fun c_8 => ?_) (fun c_8 => ?_)
    · refine lv_iconst (v := 0) hx hb dX0_isSafe_64 (by decide) ?_
      exact W.zret (v := 0) hx hb hr rfl (fun t ht hW => ⟨⟨0, (fr, fw, nI (uOff ops n)), rfl, fun z => absurd rfl z, by rw [ht]; exact hP, va_K.moved hW.alike hK, hD⟩, hS.F ht⟩) hS.2.2 dX0_isSafe_65
    · refine lv_iload_n hx hb dX0_isSafe_46 rfl (lv_at hl 1 rfl) ?_
      refine lv_bipush (v := 64) hx hb dX0_isSafe_47 (by decide) ?_
      refine lv_icmp_ge (tgt := 64) hx hb dX0_isSafe_49 (by decide) (fun c_9 => ?_) (fun c_9 => ?_)
      · refine lv_iconst (v := 0) hx hb dX0_isSafe_64 (by decide) ?_
        exact W.zret (v := 0) hx hb hr rfl (fun t ht hW => ⟨⟨0, (fr, fw, nI (uOff ops n)), rfl, fun z => absurd rfl z, by rw [ht]; exact hP, va_K.moved hW.alike hK, hD⟩, hS.F ht⟩) hS.2.2 dX0_isSafe_65
      · refine lv_iload hx hb dX0_isSafe_52 (lv_at hl 0 rfl) ?_
        refine lv_if_lt (tgt := 64) hx hb dX0_isSafe_54 (by decide) (fun c_10 => ?_) (fun c_10 => ?_)
        · refine lv_iconst (v := 0) hx hb dX0_isSafe_64 (by decide) ?_
          exact W.zret (v := 0) hx hb hr rfl (fun t ht hW => ⟨⟨0, (fr, fw, nI (uOff ops n)), rfl, fun z => absurd rfl z, by rw [ht]; exact hP, va_K.moved hW.alike hK, hD⟩, hS.F ht⟩) hS.2.2 dX0_isSafe_65
        · refine lv_iload hx hb dX0_isSafe_57 (lv_at hl 0 rfl) ?_
          refine lv_bipush (v := 64) hx hb dX0_isSafe_59 (by decide) ?_
          refine lv_icmp_lt (tgt := 66) hx hb dX0_isSafe_61 (by decide) (fun c_11 => ?_) (fun c_11 => ?_)
          · refine lv_iinc (v := nI (i + 1)) (lv' := [(2, .int (nI (i + 1))), (4, .int ((xSt bs (fr i)) + ((xSd (fr i)) * ((nI T) - 1)))), (3, .int (xSt bs (fr i))), (0, .ref h), (1, .int (nI T))]) hx hb dX0_isSafe_66 hl (k := 2) rfl (nI_1 i) (by decide) rfl (fun ls hl => ?_)
            refine lv_goto (tgt := 6) hx hb dX0_isSafe_69 (by decide) ?_
            exact ih (i + 1, ls) ⟨by omega, lt_s hnw (xNW_of hT1 hT2 c_8 c_9 c_10 c_11), lv_sub hl [0, 3, 4] rfl⟩ (by dsimp only; omega)
          · refine lv_iconst (v := 0) hx hb dX0_isSafe_64 (by decide) ?_
            exact W.zret (v := 0) hx hb hr rfl (fun t ht hW => ⟨⟨0, (fr, fw, nI (uOff ops n)), rfl, fun z => absurd rfl z, by rw [ht]; exact hP, va_K.moved hW.alike hK, hD⟩, hS.F ht⟩) hS.2.2 dX0_isSafe_65
end
section
theorem upd_ext {f g : ha_F} {j : Nat} {v : Int32} (h : ∀ x, x < j → f x = g x) (e : v = g j) : ∀ x, x < j + 1 → upd f j v x = g x := by
  intro x hx
  by_cases z : x = j
  · subst z; rw [pk_us, e]
  · rw [pk_un z]; exact h x (by omega)
theorem st4_s {bs ops tg sr sc mem f : ha_F} {sm : Int32} {k i : Nat} (h : ops k = 6) (hf : ∀ x, x < 4 → f x = mem (xN bs (sr k) (i + x))) : st4 bs ops tg sr sc k i (mem, sm) = (mem, sm + (f 0 + f 1 + f 2 + f 3) * sc k) := by
  unfold st4
  rw [if_pos h, hf 0 (by decide), hf 1 (by decide), hf 2 (by decide), hf 3 (by decide)]
theorem st4_p {bs ops tg sr sc : ha_F} {a : ha_F × Int32} {k i : Nat} (h : ¬ ops k = 6) : st4 bs ops tg sr sc k i a = (xS4 bs ops tg sr sc k i a.1 4, a.2) := by
  unfold st4
  rw [if_neg h]
set_option maxHeartbeats 4000000 in
set_option maxRecDepth 100000 in
/-- oneRound: statement k in round i -/
theorem metX0_oneRound (l : Launch) (dC : Nat → ClassId) (dI : Nat → Nat → Nat) (dA dZ : ClassId) (h : Nat) (q : Nat → Nat) (mem bs ops tg sr sc la lb ur uw : ha_F) (cnt us sm : Int32) (sz k i : Nat) (hk : k < 5) : Met l yX0_oneRound (ws_ yX0_oneRound cX0_oneRound 5 none) ({ frames := 2, cells := 0, slots := 0, locals := 43 }) (ha_M dC dI [.ref h, .int (nI k), .int (nI i)] sz (xw dA dZ h q mem bs ops tg sr sc la lb ur uw cnt us sm) (xT dA dZ)) (va_Qv (S := Unit) (fun (_ : Unit) => True) (fun _ t => ha_B dC dI (va_A (xw dA dZ h q mem bs ops tg sr sc la lb ur uw cnt us sm) sz) (xw dA dZ h q (st1 bs ops tg sr sc k i (mem, sm)).1 bs ops tg sr sc la lb ur uw cnt us (st1 bs ops tg sr sc k i (mem, sm)).2) (xT dA dZ) t) (va_A (xw dA dZ h q mem bs ops tg sr sc la lb ur uw cnt us sm) sz)) 0 0 (va_A (xw dA dZ h q mem bs ops tg sr sc la lb ur uw cnt us sm) sz) := by
  refine Met.ofW (cc := cX0_oneRound) (maxL := 5) (ret := none) (by decide) rfl ?_
  intro p e s m args below meth c s₁ B hml hv
  obtain ⟨rfl, hsz, hP, hK, hD0⟩ := hv
  have hx := B.exec
  have hb := B.bytes
  have hr := B.returns
  have hts := atoms_spec (ws := ws_ yX0_oneRound cX0_oneRound 5 none) B.pre
  have hts : ∀ w ∈ lw_all, w.before _ s = true := fun w h => hts w (List.mem_cons_of_mem _ h)
  have hown : s.vm.findClass RX0 = some m.cls := findClass_of_methodNamed B.named
  have hlocks := B.notSynchronized
  subst hsz
  have hD := hD0.self (sz := s.heap.size)
  generalize hAe : va_A (xw dA dZ h q mem bs ops tg sr sc la lb ur uw cnt us sm) s.heap.size = A at hD ⊢
  have hA : ∀ q : Nat, s.heap.size ≤ q → A q := fun q h => by rw [← hAe]; exact Or.inr h
  have hS : va_S A s.heap s.heap [] := va_S.rf
  have hD : va_D A (xw dA dZ h q mem bs ops tg sr sc la lb ur uw cnt us sm) := hD
  have hP : va_P (dC, dI) vwCl (xw dA dZ h q mem bs ops tg sr sc la lb ur uw cnt us sm) s.heap := hP
  have hl := lv_entry ([.ref h, .int (nI k), .int (nI i)]) (n := 5) (Nat.le_of_ble_eq_true rfl)
  rw [lg_entry_eq]
  generalize (lg_sl ([.ref h, .int (nI k), .int (nI i)]) ++ List.replicate (5 - (lg_sl ([.ref h, .int (nI k), .int (nI i)])).length) Slot.unset).toArray = ls at hl ⊢
  have hl : lv_has ls 5 [(0, .ref h), (1, .int (nI k)), (2, .int (nI i))] := hl
  refine lv_aload_n hx hb dX0_oneRound_0 rfl (lv_at hl 0 rfl) ?_
  refine va_get (D := (dC, dI)) (ci := 0) (v := .ref (q 0)) (C := RX0) (T := TX0) (N := 13) hx hb hts in_X0 hown hK hP 0 rfl rfl 0 (by decide) (hts _ q24) (fun _ h9 => h9) rfl dX0_oneRound_1 ?_
  refine lv_aload_n hx hb dX0_oneRound_4 rfl (lv_at hl 0 rfl) ?_
  refine lv_aload_n hx hb dX0_oneRound_5 rfl (lv_at hl 0 rfl) ?_
  refine va_get (D := (dC, dI)) (ci := 0) (v := .ref (q 4)) (C := RX0) (T := TX0) (N := 13) hx hb hts in_X0 hown hK hP 0 rfl rfl 4 (by decide) (hts _ q28) (fun _ h9 => h9) rfl dX0_oneRound_6 ?_
  refine lv_iload_n hx hb dX0_oneRound_9 rfl (lv_at hl 1 rfl) ?_
  refine ha_ld hx hb hK hP 5 0 rfl rfl k (rfl) (hk) (by decide) dX0_oneRound_10 ?_
  refine lv_iload_n hx hb dX0_oneRound_11 rfl (lv_at hl 2 rfl) ?_
  refine vp_callSi (W.runV (As := [.int (sr k), .int (nI i)]) (rest := [.ref (q 0)]) ⟨hx, hb, hml, hown, hts⟩ (metX0_cell l dC dI dA dZ h q mem bs ops tg sr sc la lb ur uw cnt us sm (sr k) (nI i)) (cwV 2 hts (lw_V q130 q132 qs7 q14 q133) rfl rfl rfl (by decide +kernel) ⟨Nat.le_of_ble_eq_true rfl, Nat.le_of_ble_eq_true rfl⟩) ⟨ha_R_blind, va_recv hK hP (ci := 0) (q0 := 0) rfl rfl, fun U hU hW => ⟨rfl, by rw [hU]; exact hP, va_K.moved hW.alike hK⟩⟩ rfl rfl hl.1 rfl (lv_room (Nat.le_of_ble_eq_true rfl)) dX0_oneRound_12 ⟨Nat.le_of_ble_eq_true rfl, Nat.le_of_ble_eq_true rfl⟩) (fun r_ hw => ?_)
  have hw : r_ = xCell bs (sr k) (nI i) := hw
  subst hw
  refine va_iald hx hb hK hP 1 0 rfl rfl (xCell_in _ _ _) dX0_oneRound_15 ?_
  refine lv_istore_n (lv' := [(3, .int (mem (xCell bs (sr k) (nI i)).toNatClampNeg)), (0, .ref h), (1, .int (nI k)), (2, .int (nI i))]) hx hb dX0_oneRound_16 rfl hl (by decide) rfl (fun ls hl => ?_)
  refine ha_join (α := Int32) (P := fun w4 => w4 = xW bs ops sc mem k i) (g := fun w4 => F0 m 54 ls [.int w4]) (fun w4 hw4 => ?_) (fun K => ?_)
  · have hw4 : w4 = xW bs ops sc mem k i := hw4
    subst hw4
    refine lv_istore (lv' := [(4, .int (xW bs ops sc mem k i)), (3, .int (mem (xCell bs (sr k) (nI i)).toNatClampNeg)), (0, .ref h), (1, .int (nI k)), (2, .int (nI i))]) hx hb dX0_oneRound_54 hl (by decide) rfl (fun ls hl => ?_)
    refine lv_aload_n hx hb dX0_oneRound_56 rfl (lv_at hl 2 rfl) ?_
    refine va_get (D := (dC, dI)) (ci := 0) (v := .ref (q 2)) (C := RX0) (T := TX0) (N := 13) hx hb hts in_X0 hown hK hP 0 rfl rfl 2 (by decide) (hts _ q26) (fun _ h9 => h9) rfl dX0_oneRound_57 ?_
    refine lv_iload_n hx hb dX0_oneRound_60 rfl (lv_at hl 3 rfl) ?_
    refine ha_ld hx hb hK hP 3 0 rfl rfl k (rfl) (hk) (by decide) dX0_oneRound_61 ?_
    refine lv_bipush (v := 6) hx hb dX0_oneRound_62 (by decide) ?_
    refine lv_icmp_ne (tgt := 83) hx hb dX0_oneRound_64 (by decide) (fun c_1 => ?_) (fun c_1 => ?_)
    · refine lv_aload_n hx hb dX0_oneRound_83 rfl (lv_at hl 2 rfl) ?_
      refine va_get (D := (dC, dI)) (ci := 0) (v := .ref (q 0)) (C := RX0) (T := TX0) (N := 13) hx hb hts in_X0 hown hK hP 0 rfl rfl 0 (by decide) (hts _ q24) (fun _ h9 => h9) rfl dX0_oneRound_84 ?_
      refine lv_aload_n hx hb dX0_oneRound_87 rfl (lv_at hl 2 rfl) ?_
      refine lv_aload_n hx hb dX0_oneRound_88 rfl (lv_at hl 2 rfl) ?_
      refine va_get (D := (dC, dI)) (ci := 0) (v := .ref (q 3)) (C := RX0) (T := TX0) (N := 13) hx hb hts in_X0 hown hK hP 0 rfl rfl 3 (by decide) (hts _ q27) (fun _ h9 => h9) rfl dX0_oneRound_89 ?_
      refine lv_iload_n hx hb dX0_oneRound_92 rfl (lv_at hl 3 rfl) ?_
      refine ha_ld hx hb hK hP 4 0 rfl rfl k (rfl) (hk) (by decide) dX0_oneRound_93 ?_
      refine lv_iload_n hx hb dX0_oneRound_94 rfl (lv_at hl 4 rfl) ?_
      refine vp_callSi (W.runV (As := [.int (tg k), .int (nI i)]) (rest := [.ref (q 0)]) ⟨hx, hb, hml, hown, hts⟩ (metX0_cell l dC dI dA dZ h q mem bs ops tg sr sc la lb ur uw cnt us sm (tg k) (nI i)) (cwV 2 hts (lw_V q130 q132 qs7 q14 q133) rfl rfl rfl (by decide +kernel) ⟨Nat.le_of_ble_eq_true rfl, Nat.le_of_ble_eq_true rfl⟩) ⟨ha_R_blind, va_recv hK hP (ci := 0) (q0 := 0) rfl rfl, fun U hU hW => ⟨rfl, by rw [hU]; exact hP, va_K.moved hW.alike hK⟩⟩ rfl rfl hl.1 rfl (lv_room (Nat.le_of_ble_eq_true rfl)) dX0_oneRound_95 ⟨Nat.le_of_ble_eq_true rfl, Nat.le_of_ble_eq_true rfl⟩) (fun r_ hw => ?_)
      have hw : r_ = xCell bs (tg k) (nI i) := hw
      subst hw
      refine lv_aload_n hx hb dX0_oneRound_98 rfl (lv_at hl 2 rfl) ?_
      refine va_get (D := (dC, dI)) (ci := 0) (v := .ref (q 2)) (C := RX0) (T := TX0) (N := 13) hx hb hts in_X0 hown hK hP 0 rfl rfl 2 (by decide) (hts _ q26) (fun _ h9 => h9) rfl dX0_oneRound_99 ?_
      refine lv_iload_n hx hb dX0_oneRound_102 rfl (lv_at hl 3 rfl) ?_
      refine ha_ld hx hb hK hP 3 0 rfl rfl k (rfl) (hk) (by decide) dX0_oneRound_103 ?_
      refine lv_iload_n hx hb dX0_oneRound_104 rfl (lv_at hl 1 rfl) ?_
      refine lv_iload hx hb dX0_oneRound_105 (lv_at hl 0 rfl) ?_
      refine lv_iload_n hx hb dX0_oneRound_107 rfl (lv_at hl 4 rfl) ?_
      refine vp_callSi (W.runS (As := [.int (ops k), .int (mem (xCell bs (sr k) (nI i)).toNatClampNeg), .int (xW bs ops sc mem k i), .int (nI i)]) (rest := [.int (xCell bs (tg k) (nI i)), .ref (q 0)]) ⟨hx, hb, hml, hown, hts⟩ (metX0_result l (ops k) (mem (xCell bs (sr k) (nI i)).toNatClampNeg) (xW bs ops sc mem k i) (nI i)) (va_cwS 4 hts (lw_S q123 q124 q14 q125) rfl rfl rfl (by decide +kernel) ⟨Nat.le_of_ble_eq_true rfl, Nat.le_of_ble_eq_true rfl⟩) ⟨ha_N_blind, fun U hU hW => ⟨rfl, trivial⟩⟩ rfl rfl hl.1 rfl (lv_room (Nat.le_of_ble_eq_true rfl)) dX0_oneRound_108 ⟨Nat.le_of_ble_eq_true rfl, Nat.le_of_ble_eq_true rfl⟩) (fun r_ hw => ?_)
      have hw : r_ = xRes (ops k) (mem (xCell bs (sr k) (nI i)).toNatClampNeg) (xW bs ops sc mem k i) (nI i) := hw
      subst hw
      refine va_iast hx hb hK hP hD hS 1 0 rfl rfl (xCell_in _ _ _) dX0_oneRound_111 (fun H locs hP hD hS => ?_)
      have hP : va_P (dC, dI) vwCl (xw dA dZ h q (upd mem (xCell bs (tg k) (nI i)).toNatClampNeg (xRes (ops k) (mem (xCell bs (sr k) (nI i)).toNatClampNeg) (xW bs ops sc mem k i) (nI i))) bs ops tg sr sc la lb ur uw cnt us sm) H := hP
      have hD : va_D A (xw dA dZ h q (upd mem (xCell bs (tg k) (nI i)).toNatClampNeg (xRes (ops k) (mem (xCell bs (sr k) (nI i)).toNatClampNeg) (xW bs ops sc mem k i) (nI i))) bs ops tg sr sc la lb ur uw cnt us sm) := hD
      exact W.vret hx hb hr (fun t ht hW => ⟨⟨(), rfl, trivial, by rw [ht, st1_put c_1]; exact hP, va_K.moved hW.alike hK, by rw [st1_put c_1]; exact hD⟩, hS.F ht⟩) hS.2.2 dX0_oneRound_112
    · refine lv_aload_n hx hb dX0_oneRound_67 rfl (lv_at hl 2 rfl) ?_
      refine lv_dup hx hb dX0_oneRound_68 rfl ?_
      refine va_get (D := (dC, dI)) (ci := 0) (v := .int sm) (C := RX0) (T := TX0) (N := 13) hx hb hts in_X0 hown hK hP 0 rfl rfl 12 (by decide) (hts _ q36) (fun _ h9 => h9) rfl dX0_oneRound_69 ?_
      refine lv_iload_n hx hb dX0_oneRound_72 rfl (lv_at hl 1 rfl) ?_
      refine lv_iload hx hb dX0_oneRound_73 (lv_at hl 0 rfl) ?_
      refine lv_imul hx hb dX0_oneRound_75 ?_
      refine lv_iadd hx hb dX0_oneRound_76 ?_
      refine va_put (D := (dC, dI)) (ci := 0) (v := .int (sm + ((mem (xCell bs (sr k) (nI i)).toNatClampNeg) * (xW bs ops sc mem k i)))) (ty := .int) (C := RX0) (T := TX0) (N := 13) hx hb hts in_X0 tyX0 tyX0_ok nmX0 hown hK hP hD hS 0 rfl rfl 12 (by decide) (hts _ q36) (fun _ h9 => h9) rfl (by decide +kernel) rfl rfl (Nat.le_of_ble_eq_true rfl) dX0_oneRound_77 (fun H locs hP hD hS => ?_)
      have hP : va_P (dC, dI) vwCl (xw dA dZ h q mem bs ops tg sr sc la lb ur uw cnt us (sm + ((mem (xCell bs (sr k) (nI i)).toNatClampNeg) * (xW bs ops sc mem k i)))) H := hP
      have hD : va_D A (xw dA dZ h q mem bs ops tg sr sc la lb ur uw cnt us (sm + ((mem (xCell bs (sr k) (nI i)).toNatClampNeg) * (xW bs ops sc mem k i)))) := hD
      refine lv_goto (tgt := 112) hx hb dX0_oneRound_80 (by decide) ?_
      exact W.vret hx hb hr (fun t ht hW => ⟨⟨(), rfl, trivial, by rw [ht, st1_sum c_1]; exact hP, va_K.moved hW.alike hK, by rw [st1_sum c_1]; exact hD⟩, hS.F ht⟩) hS.2.2 dX0_oneRound_112
  · refine lv_aload_n hx hb dX0_oneRound_17 rfl (lv_at hl 1 rfl) ?_
    refine va_get (D := (dC, dI)) (ci := 0) (v := .ref (q 2)) (C := RX0) (T := TX0) (N := 13) hx hb hts in_X0 hown hK hP 0 rfl rfl 2 (by decide) (hts _ q26) (fun _ h9 => h9) rfl dX0_oneRound_18 ?_
    refine lv_iload_n hx hb dX0_oneRound_21 rfl (lv_at hl 2 rfl) ?_
    refine ha_ld hx hb hK hP 3 0 rfl rfl k (rfl) (hk) (by decide) dX0_oneRound_22 ?_
    refine vp_callSi (W.runS (As := [.int (ops k)]) (rest := []) ⟨hx, hb, hml, hown, hts⟩ (metX0_takesTwo l (ops k)) (va_cwS 1 hts (lw_S q73 q74 q14 q75) rfl rfl rfl (by decide +kernel) ⟨Nat.le_of_ble_eq_true rfl, Nat.le_of_ble_eq_true rfl⟩) ⟨ha_N_blind, fun U hU hW => ⟨rfl, trivial⟩⟩ rfl rfl hl.1 rfl (lv_room (Nat.le_of_ble_eq_true rfl)) dX0_oneRound_23 ⟨Nat.le_of_ble_eq_true rfl, Nat.le_of_ble_eq_true rfl⟩) (fun r_ hw => ?_)
    have hb_2 : ¬ r_ = 0 ↔ xTwo (ops k) := hw
    clear hw
    generalize r_ = b_2 at hb_2 ⊢
    refine lv_if_eq (tgt := 48) hx hb dX0_oneRound_26 (by decide) (fun c_3 => ?_) (fun c_3 => ?_)
    · have hn2 : ¬ xTwo (ops k) := fun z => hb_2.mpr z c_3
      refine lv_aload_n hx hb dX0_oneRound_48 rfl (lv_at hl 1 rfl) ?_
      refine va_get (D := (dC, dI)) (ci := 0) (v := .ref (q 5)) (C := RX0) (T := TX0) (N := 13) hx hb hts in_X0 hown hK hP 0 rfl rfl 5 (by decide) (hts _ q29) (fun _ h9 => h9) rfl dX0_oneRound_49 ?_
      refine lv_iload_n hx hb dX0_oneRound_52 rfl (lv_at hl 2 rfl) ?_
      refine ha_ld hx hb hK hP 6 0 rfl rfl k (rfl) (hk) (by decide) dX0_oneRound_53 ?_
      exact K (sc k) ((xW_no hn2).symm)
    · have hy2 := hb_2.mp c_3
      refine lv_aload_n hx hb dX0_oneRound_29 rfl (lv_at hl 1 rfl) ?_
      refine va_get (D := (dC, dI)) (ci := 0) (v := .ref (q 0)) (C := RX0) (T := TX0) (N := 13) hx hb hts in_X0 hown hK hP 0 rfl rfl 0 (by decide) (hts _ q24) (fun _ h9 => h9) rfl dX0_oneRound_30 ?_
      refine lv_aload_n hx hb dX0_oneRound_33 rfl (lv_at hl 1 rfl) ?_
      refine lv_aload_n hx hb dX0_oneRound_34 rfl (lv_at hl 1 rfl) ?_
      refine va_get (D := (dC, dI)) (ci := 0) (v := .ref (q 5)) (C := RX0) (T := TX0) (N := 13) hx hb hts in_X0 hown hK hP 0 rfl rfl 5 (by decide) (hts _ q29) (fun _ h9 => h9) rfl dX0_oneRound_35 ?_
      refine lv_iload_n hx hb dX0_oneRound_38 rfl (lv_at hl 2 rfl) ?_
      refine ha_ld hx hb hK hP 6 0 rfl rfl k (rfl) (hk) (by decide) dX0_oneRound_39 ?_
      refine lv_iload_n hx hb dX0_oneRound_40 rfl (lv_at hl 3 rfl) ?_
      refine vp_callSi (W.runV (As := [.int (sc k), .int (nI i)]) (rest := [.ref (q 0)]) ⟨hx, hb, hml, hown, hts⟩ (metX0_cell l dC dI dA dZ h q mem bs ops tg sr sc la lb ur uw cnt us sm (sc k) (nI i)) (cwV 2 hts (lw_V q130 q132 qs7 q14 q133) rfl rfl rfl (by decide +kernel) ⟨Nat.le_of_ble_eq_true rfl, Nat.le_of_ble_eq_true rfl⟩) ⟨ha_R_blind, va_recv hK hP (ci := 0) (q0 := 0) rfl rfl, fun U hU hW => ⟨rfl, by rw [hU]; exact hP, va_K.moved hW.alike hK⟩⟩ rfl rfl hl.1 rfl (lv_room (Nat.le_of_ble_eq_true rfl)) dX0_oneRound_41 ⟨Nat.le_of_ble_eq_true rfl, Nat.le_of_ble_eq_true rfl⟩) (fun r_ hw => ?_)
      have hw : r_ = xCell bs (sc k) (nI i) := hw
      subst hw
      refine va_iald hx hb hK hP 1 0 rfl rfl (xCell_in _ _ _) dX0_oneRound_44 ?_
      refine lv_goto (tgt := 54) hx hb dX0_oneRound_45 (by decide) ?_
      exact K (mem (xCell bs (sc k) (nI i)).toNatClampNeg) ((xW_two hy2).symm)
set_option maxHeartbeats 4000000 in
set_option maxRecDepth 100000 in
/-- fourRounds: statement k in rounds i .. i + 3, loads first -/
theorem metX0_fourRounds (l : Launch) (dC : Nat → ClassId) (dI : Nat → Nat → Nat) (dA dZ : ClassId) (h : Nat) (q : Nat → Nat) (mem bs ops tg sr sc la lb ur uw : ha_F) (cnt us sm : Int32) (sz k i : Nat) (hk : k < 5) : Met l yX0_fourRounds (ws_ yX0_fourRounds cX0_fourRounds 6 none) ({ frames := 1, cells := 0, slots := 0, locals := 23 }) (ha_M dC dI [.ref h, .int (nI k), .int (nI i)] sz (xw dA dZ h q mem bs ops tg sr sc la lb ur uw cnt us sm) (xT dA dZ)) (va_Qv (S := ha_F × ha_F) (fun (_ : ha_F × ha_F) => True) (fun y t => ha_B dC dI (va_A (xw dA dZ h q mem bs ops tg sr sc la lb ur uw cnt us sm) sz) (xw dA dZ h q (st4 bs ops tg sr sc k i (mem, sm)).1 bs ops tg sr sc y.1 y.2 ur uw cnt us (st4 bs ops tg sr sc k i (mem, sm)).2) (xT dA dZ) t) (va_A (xw dA dZ h q mem bs ops tg sr sc la lb ur uw cnt us sm) sz)) 0 0 (va_A (xw dA dZ h q mem bs ops tg sr sc la lb ur uw cnt us sm) sz) := by
  refine Met.ofW (cc := cX0_fourRounds) (maxL := 6) (ret := none) (by decide) rfl ?_
  intro p e s m args below meth c s₁ B hml hv
  obtain ⟨rfl, hsz, hP, hK, hD0⟩ := hv
  have hx := B.exec
  have hb := B.bytes
  have hr := B.returns
  have hts := atoms_spec (ws := ws_ yX0_fourRounds cX0_fourRounds 6 none) B.pre
  have hts : ∀ w ∈ lw_all, w.before _ s = true := fun w h => hts w (List.mem_cons_of_mem _ h)
  have hown : s.vm.findClass RX0 = some m.cls := findClass_of_methodNamed B.named
  have hlocks := B.notSynchronized
  subst hsz
  have hD := hD0.self (sz := s.heap.size)
  generalize hAe : va_A (xw dA dZ h q mem bs ops tg sr sc la lb ur uw cnt us sm) s.heap.size = A at hD ⊢
  have hA : ∀ q : Nat, s.heap.size ≤ q → A q := fun q h => by rw [← hAe]; exact Or.inr h
  have hS : va_S A s.heap s.heap [] := va_S.rf
  have hD : va_D A (xw dA dZ h q mem bs ops tg sr sc la lb ur uw cnt us sm) := hD
  have hP : va_P (dC, dI) vwCl (xw dA dZ h q mem bs ops tg sr sc la lb ur uw cnt us sm) s.heap := hP
  have hl := lv_entry ([.ref h, .int (nI k), .int (nI i)]) (n := 6) (Nat.le_of_ble_eq_true rfl)
  rw [lg_entry_eq]
  generalize (lg_sl ([.ref h, .int (nI k), .int (nI i)]) ++ List.replicate (6 - (lg_sl ([.ref h, .int (nI k), .int (nI i)])).length) Slot.unset).toArray = ls at hl ⊢
  have hl : lv_has ls 6 [(0, .ref h), (1, .int (nI k)), (2, .int (nI i))] := hl
  refine lv_aload_n hx hb dX0_fourRounds_0 rfl (lv_at hl 0 rfl) ?_
  refine lv_aload_n hx hb dX0_fourRounds_1 rfl (lv_at hl 0 rfl) ?_
  refine va_get (D := (dC, dI)) (ci := 0) (v := .ref (q 4)) (C := RX0) (T := TX0) (N := 13) hx hb hts in_X0 hown hK hP 0 rfl rfl 4 (by decide) (hts _ q28) (fun _ h9 => h9) rfl dX0_fourRounds_2 ?_
  refine lv_iload_n hx hb dX0_fourRounds_5 rfl (lv_at hl 1 rfl) ?_
  refine ha_ld hx hb hK hP 5 0 rfl rfl k (rfl) (hk) (by decide) dX0_fourRounds_6 ?_
  refine vp_callSi (W.runV (As := [.int (sr k)]) (rest := []) ⟨hx, hb, hml, hown, hts⟩ (metX0_startOf l dC dI dA dZ h q mem bs ops tg sr sc la lb ur uw cnt us sm (sr k)) (cwV 1 hts (lw_V q108 q110 qs3 q14 q111) rfl rfl rfl (by decide +kernel) ⟨Nat.le_of_ble_eq_true rfl, Nat.le_of_ble_eq_true rfl⟩) ⟨ha_R_blind, va_recv hK hP (ci := 0) (q0 := 0) rfl rfl, fun U hU hW => ⟨rfl, by rw [hU]; exact hP, va_K.moved hW.alike hK⟩⟩ rfl rfl hl.1 rfl (lv_room (Nat.le_of_ble_eq_true rfl)) dX0_fourRounds_7 ⟨Nat.le_of_ble_eq_true rfl, Nat.le_of_ble_eq_true rfl⟩) (fun r_ hw => ?_)
  have hw : r_ = xSt bs (sr k) := hw
  subst hw
  refine lv_aload_n hx hb dX0_fourRounds_10 rfl (lv_at hl 0 rfl) ?_
  refine va_get (D := (dC, dI)) (ci := 0) (v := .ref (q 4)) (C := RX0) (T := TX0) (N := 13) hx hb hts in_X0 hown hK hP 0 rfl rfl 4 (by decide) (hts _ q28) (fun _ h9 => h9) rfl dX0_fourRounds_11 ?_
  refine lv_iload_n hx hb dX0_fourRounds_14 rfl (lv_at hl 1 rfl) ?_
  refine ha_ld hx hb hK hP 5 0 rfl rfl k (rfl) (hk) (by decide) dX0_fourRounds_15 ?_
  refine vp_callSi (W.runS (As := [.int (sr k)]) (rest := [.int (xSt bs (sr k))]) ⟨hx, hb, hml, hown, hts⟩ (metX0_strideOf l (sr k)) (va_cwS 1 hts (lw_S q112 q113 q14 q114) rfl rfl rfl (by decide +kernel) ⟨Nat.le_of_ble_eq_true rfl, Nat.le_of_ble_eq_true rfl⟩) ⟨ha_N_blind, fun U hU hW => ⟨rfl, trivial⟩⟩ rfl rfl hl.1 rfl (lv_room (Nat.le_of_ble_eq_true rfl)) dX0_fourRounds_16 ⟨Nat.le_of_ble_eq_true rfl, Nat.le_of_ble_eq_true rfl⟩) (fun r_ hw => ?_)
  have hw : r_ = xSd (sr k) := hw
  subst hw
  refine lv_iload_n hx hb dX0_fourRounds_19 rfl (lv_at hl 2 rfl) ?_
  refine lv_imul hx hb dX0_fourRounds_20 ?_
  refine lv_iadd hx hb dX0_fourRounds_21 ?_
  refine lv_istore_n (lv' := [(3, .int ((xSt bs (sr k)) + ((xSd (sr k)) * (nI i)))), (0, .ref h), (1, .int (nI k)), (2, .int (nI i))]) hx hb dX0_fourRounds_22 rfl hl (by decide) rfl (fun ls hl => ?_)
  refine lv_iconst (v := 0) hx hb dX0_fourRounds_23 (by decide) ?_
  refine lv_istore (lv' := [(4, .int 0), (3, .int ((xSt bs (sr k)) + ((xSd (sr k)) * (nI i)))), (0, .ref h), (1, .int (nI k)), (2, .int (nI i))]) hx hb dX0_fourRounds_24 hl (by decide) rfl (fun ls hl => ?_)
  refine ha_loop (σ := Nat × ha_F × ha_F × Heap × List Loc × Array Slot) (fun x => 4 - x.1) (fun x => (x.1 ≤ 4) ∧ (∀ o, o < x.1 → x.2.1 o = mem (xN bs (sr k) (i + o))) ∧ (∀ o, o < x.1 → x.2.2.1 o = sc k) ∧ (va_P (dC, dI) vwCl (xw dA dZ h q mem bs ops tg sr sc x.2.1 x.2.2.1 ur uw cnt us sm) x.2.2.2.1) ∧ (va_D A (xw dA dZ h q mem bs ops tg sr sc x.2.1 x.2.2.1 ur uw cnt us sm)) ∧ (va_S A s.heap x.2.2.2.1 x.2.2.2.2.1) ∧ (lv_has x.2.2.2.2.2 6 [(4, .int (nI (x.1))), (3, .int (xSt bs (sr k) + xSd (sr k) * nI (i + (x.1)))), (0, .ref h), (1, .int (nI k)), (2, .int (nI i))])) (fun x => x.2.2.2.1) (fun x => x.2.2.2.2.1) (fun x => F0 m 26 x.2.2.2.2.2 []) ?_ (0, la, lb, s.heap, [], ls) ⟨Nat.zero_le _, lt_0, lt_0, hP, hD, hS, lv_sub hl [0, 1, 2, 3, 4] rfl⟩
  rintro ⟨j, fa, fb, H, locs, ls⟩ ⟨hj, ha1, hb1, hP, hD, hS, hl⟩ ih
  have hj : j ≤ 4 := hj
  have ha1 : ∀ o, o < j → fa o = mem (xN bs (sr k) (i + o)) := ha1
  have hb1 : ∀ o, o < j → fb o = sc k := hb1
  have hP : va_P (dC, dI) vwCl (xw dA dZ h q mem bs ops tg sr sc fa fb ur uw cnt us sm) H := hP
  have hD : va_D A (xw dA dZ h q mem bs ops tg sr sc fa fb ur uw cnt us sm) := hD
  have hS : va_S A s.heap H locs := hS
  have hl : lv_has ls 6 [(4, .int (nI j)), (3, .int (xSt bs (sr k) + xSd (sr k) * nI (i + j))), (0, .ref h), (1, .int (nI k)), (2, .int (nI i))] := hl
  show W p l e _ s m _ below meth c H locs _ _ _ (F0 m 26 ls [])
  refine lv_iload hx hb dX0_fourRounds_26 (lv_at hl 0 rfl) ?_
  refine lv_iconst (v := 4) hx hb dX0_fourRounds_28 (by decide) ?_
  refine lv_icmp_ge (tgt := 79) hx hb dX0_fourRounds_29 (by decide) (fun c_1 => ?_) (fun c_1 => ?_)
  · have hj4 : j = 4 := by have z := (nI_leI (a := 4) (b := j) (by decide) (by omega)).mp c_1; omega
    rw [hj4] at ha1 hb1
    refine ha_joinH (α := ha_F × Heap × List Loc × Array Slot) (P := fun x => (∀ o, o < 4 → x.1 o = xW bs ops sc mem k (i + o)) ∧ (va_P (dC, dI) vwCl (xw dA dZ h q mem bs ops tg sr sc fa x.1 ur uw cnt us sm) x.2.1) ∧ (va_D A (xw dA dZ h q mem bs ops tg sr sc fa x.1 ur uw cnt us sm)) ∧ (va_S A s.heap x.2.1 x.2.2.1) ∧ (lv_has x.2.2.2 6 [(0, .ref h), (1, .int (nI k)), (2, .int (nI i))])) (Hh := fun x => x.2.1) (Ll := fun x => x.2.2.1) (g := fun x => F0 m 161 x.2.2.2 []) ?_ (fun K => ?_)
    · rintro ⟨fc, H, locs, ls⟩ ⟨hc4, hP, hD, hS, hl⟩
      have hc4 : ∀ o, o < 4 → fc o = xW bs ops sc mem k (i + o) := hc4
      have hP : va_P (dC, dI) vwCl (xw dA dZ h q mem bs ops tg sr sc fa fc ur uw cnt us sm) H := hP
      have hD : va_D A (xw dA dZ h q mem bs ops tg sr sc fa fc ur uw cnt us sm) := hD
      have hS : va_S A s.heap H locs := hS
      have hl : lv_has ls 6 [(0, .ref h), (1, .int (nI k)), (2, .int (nI i))] := hl
      show W p l e _ s m _ below meth c H locs _ _ _ (F0 m 161 ls [])
      refine lv_aload_n hx hb dX0_fourRounds_161 rfl (lv_at hl 0 rfl) ?_
      refine va_get (D := (dC, dI)) (ci := 0) (v := .ref (q 2)) (C := RX0) (T := TX0) (N := 13) hx hb hts in_X0 hown hK hP 0 rfl rfl 2 (by decide) (hts _ q26) (fun _ h9 => h9) rfl dX0_fourRounds_162 ?_
      refine lv_iload_n hx hb dX0_fourRounds_165 rfl (lv_at hl 1 rfl) ?_
      refine ha_ld hx hb hK hP 3 0 rfl rfl k (rfl) (hk) (by decide) dX0_fourRounds_166 ?_
      refine lv_bipush (v := 6) hx hb dX0_fourRounds_167 (by decide) ?_
      refine lv_icmp_ne (tgt := 216) hx hb dX0_fourRounds_169 (by decide) (fun c_2 => ?_) (fun c_2 => ?_)
      · refine lv_aload_n hx hb dX0_fourRounds_216 rfl (lv_at hl 0 rfl) ?_
        refine lv_aload_n hx hb dX0_fourRounds_217 rfl (lv_at hl 0 rfl) ?_
        refine va_get (D := (dC, dI)) (ci := 0) (v := .ref (q 3)) (C := RX0) (T := TX0) (N := 13) hx hb hts in_X0 hown hK hP 0 rfl rfl 3 (by decide) (hts _ q27) (fun _ h9 => h9) rfl dX0_fourRounds_218 ?_
        refine lv_iload_n hx hb dX0_fourRounds_221 rfl (lv_at hl 1 rfl) ?_
        refine ha_ld hx hb hK hP 4 0 rfl rfl k (rfl) (hk) (by decide) dX0_fourRounds_222 ?_
        refine vp_callSi (W.runV (As := [.int (tg k)]) (rest := []) ⟨hx, hb, hml, hown, hts⟩ (metX0_startOf l dC dI dA dZ h q mem bs ops tg sr sc fa fc ur uw cnt us sm (tg k)) (cwV 1 hts (lw_V q108 q110 qs3 q14 q111) rfl rfl rfl (by decide +kernel) ⟨Nat.le_of_ble_eq_true rfl, Nat.le_of_ble_eq_true rfl⟩) ⟨ha_R_blind, va_recv hK hP (ci := 0) (q0 := 0) rfl rfl, fun U hU hW => ⟨rfl, by rw [hU]; exact hP, va_K.moved hW.alike hK⟩⟩ rfl rfl hl.1 rfl (lv_room (Nat.le_of_ble_eq_true rfl)) dX0_fourRounds_223 ⟨Nat.le_of_ble_eq_true rfl, Nat.le_of_ble_eq_true rfl⟩) (fun r_ hw => ?_)
        have hw : r_ = xSt bs (tg k) := hw
        subst hw
        refine lv_aload_n hx hb dX0_fourRounds_226 rfl (lv_at hl 0 rfl) ?_
        refine va_get (D := (dC, dI)) (ci := 0) (v := .ref (q 3)) (C := RX0) (T := TX0) (N := 13) hx hb hts in_X0 hown hK hP 0 rfl rfl 3 (by decide) (hts _ q27) (fun _ h9 => h9) rfl dX0_fourRounds_227 ?_
        refine lv_iload_n hx hb dX0_fourRounds_230 rfl (lv_at hl 1 rfl) ?_
        refine ha_ld hx hb hK hP 4 0 rfl rfl k (rfl) (hk) (by decide) dX0_fourRounds_231 ?_
        refine vp_callSi (W.runS (As := [.int (tg k)]) (rest := [.int (xSt bs (tg k))]) ⟨hx, hb, hml, hown, hts⟩ (metX0_strideOf l (tg k)) (va_cwS 1 hts (lw_S q112 q113 q14 q114) rfl rfl rfl (by decide +kernel) ⟨Nat.le_of_ble_eq_true rfl, Nat.le_of_ble_eq_true rfl⟩) ⟨ha_N_blind, fun U hU hW => ⟨rfl, trivial⟩⟩ rfl rfl hl.1 rfl (lv_room (Nat.le_of_ble_eq_true rfl)) dX0_fourRounds_232 ⟨Nat.le_of_ble_eq_true rfl, Nat.le_of_ble_eq_true rfl⟩) (fun r_ hw => ?_)
        have hw : r_ = xSd (tg k) := hw
        subst hw
        refine lv_iload_n hx hb dX0_fourRounds_235 rfl (lv_at hl 2 rfl) ?_
        refine lv_imul hx hb dX0_fourRounds_236 ?_
        refine lv_iadd hx hb dX0_fourRounds_237 ?_
        refine lv_istore (lv' := [(4, .int ((xSt bs (tg k)) + ((xSd (tg k)) * (nI i)))), (0, .ref h), (1, .int (nI k)), (2, .int (nI i))]) hx hb dX0_fourRounds_238 hl (by decide) rfl (fun ls hl => ?_)
        refine lv_iconst (v := 0) hx hb dX0_fourRounds_240 (by decide) ?_
        refine lv_istore (lv' := [(5, .int 0), (4, .int ((xSt bs (tg k)) + ((xSd (tg k)) * (nI i)))), (0, .ref h), (1, .int (nI k)), (2, .int (nI i))]) hx hb dX0_fourRounds_241 hl (by decide) rfl (fun ls hl => ?_)
        refine ha_loop (σ := Nat × Heap × List Loc × Array Slot) (fun x => 4 - x.1) (fun x => (x.1 ≤ 4) ∧ (va_P (dC, dI) vwCl (xw dA dZ h q (xS4 bs ops tg sr sc k i mem (x.1)) bs ops tg sr sc fa fc ur uw cnt us sm) x.2.1) ∧ (va_D A (xw dA dZ h q (xS4 bs ops tg sr sc k i mem (x.1)) bs ops tg sr sc fa fc ur uw cnt us sm)) ∧ (va_S A s.heap x.2.1 x.2.2.1) ∧ (lv_has x.2.2.2 6 [(5, .int (nI (x.1))), (4, .int (xSt bs (tg k) + xSd (tg k) * nI (i + (x.1)))), (0, .ref h), (1, .int (nI k)), (2, .int (nI i))])) (fun x => x.2.1) (fun x => x.2.2.1) (fun x => F0 m 243 x.2.2.2 []) ?_ (0, H, locs, ls) ⟨Nat.zero_le _, hP, hD, hS, lv_sub hl [0, 1, 2, 3, 4] rfl⟩
        rintro ⟨x, H, locs, ls⟩ ⟨hx4, hP, hD, hS, hl⟩ ih3
        have hx4 : x ≤ 4 := hx4
        have hP : va_P (dC, dI) vwCl (xw dA dZ h q (xS4 bs ops tg sr sc k i mem x) bs ops tg sr sc fa fc ur uw cnt us sm) H := hP
        have hD : va_D A (xw dA dZ h q (xS4 bs ops tg sr sc k i mem x) bs ops tg sr sc fa fc ur uw cnt us sm) := hD
        have hS : va_S A s.heap H locs := hS
        have hl : lv_has ls 6 [(5, .int (nI x)), (4, .int (xSt bs (tg k) + xSd (tg k) * nI (i + x))), (0, .ref h), (1, .int (nI k)), (2, .int (nI i))] := hl
        show W p l e _ s m _ below meth c H locs _ _ _ (F0 m 243 ls [])
        refine lv_iload hx hb dX0_fourRounds_243 (lv_at hl 0 rfl) ?_
        refine lv_iconst (v := 4) hx hb dX0_fourRounds_245 (by decide) ?_
        refine lv_icmp_ge (tgt := 306) hx hb dX0_fourRounds_246 (by decide) (fun c_3 => ?_) (fun c_3 => ?_)
        · have hx44 : x = 4 := by have z := (nI_leI (a := 4) (b := x) (by decide) (by omega)).mp c_3; omega
          subst hx44
          exact W.vret hx hb hr (fun t ht hW => ⟨⟨(fa, fc), rfl, trivial, by rw [ht, st4_p c_2]; exact hP, va_K.moved hW.alike hK, by rw [st4_p c_2]; exact hD⟩, hS.F ht⟩) hS.2.2 dX0_fourRounds_306
        · have hlt3 : x < 4 := by rcases Nat.lt_or_ge x 4 with z | z; exact z; exact absurd (nI_le z (by omega)) c_3
          refine lv_aload_n hx hb dX0_fourRounds_249 rfl (lv_at hl 2 rfl) ?_
          refine va_get (D := (dC, dI)) (ci := 0) (v := .ref (q 0)) (C := RX0) (T := TX0) (N := 13) hx hb hts in_X0 hown hK hP 0 rfl rfl 0 (by decide) (hts _ q24) (fun _ h9 => h9) rfl dX0_fourRounds_250 ?_
          refine lv_iload hx hb dX0_fourRounds_253 (lv_at hl 1 rfl) ?_
          refine lv_bipush (v := 63) hx hb dX0_fourRounds_255 (by decide) ?_
          refine lv_iand hx hb dX0_fourRounds_257 ?_
          refine lv_aload_n hx hb dX0_fourRounds_258 rfl (lv_at hl 2 rfl) ?_
          refine va_get (D := (dC, dI)) (ci := 0) (v := .ref (q 2)) (C := RX0) (T := TX0) (N := 13) hx hb hts in_X0 hown hK hP 0 rfl rfl 2 (by decide) (hts _ q26) (fun _ h9 => h9) rfl dX0_fourRounds_259 ?_
          refine lv_iload_n hx hb dX0_fourRounds_262 rfl (lv_at hl 3 rfl) ?_
          refine ha_ld hx hb hK hP 3 0 rfl rfl k (rfl) (hk) (by decide) dX0_fourRounds_263 ?_
          refine lv_aload_n hx hb dX0_fourRounds_264 rfl (lv_at hl 2 rfl) ?_
          refine va_get (D := (dC, dI)) (ci := 0) (v := .ref (q 6)) (C := RX0) (T := TX0) (N := 13) hx hb hts in_X0 hown hK hP 0 rfl rfl 6 (by decide) (hts _ q30) (fun _ h9 => h9) rfl dX0_fourRounds_265 ?_
          refine lv_iload hx hb dX0_fourRounds_268 (lv_at hl 0 rfl) ?_
          refine ha_ld hx hb hK hP 7 0 rfl rfl x (rfl) (hlt3) (by decide) dX0_fourRounds_270 ?_
          refine lv_aload_n hx hb dX0_fourRounds_271 rfl (lv_at hl 2 rfl) ?_
          refine va_get (D := (dC, dI)) (ci := 0) (v := .ref (q 7)) (C := RX0) (T := TX0) (N := 13) hx hb hts in_X0 hown hK hP 0 rfl rfl 7 (by decide) (hts _ q31) (fun _ h9 => h9) rfl dX0_fourRounds_272 ?_
          refine lv_iload hx hb dX0_fourRounds_275 (lv_at hl 0 rfl) ?_
          refine ha_ld hx hb hK hP 8 0 rfl rfl x (rfl) (hlt3) (by decide) dX0_fourRounds_277 ?_
          refine lv_iload_n hx hb dX0_fourRounds_278 rfl (lv_at hl 4 rfl) ?_
          refine lv_iload hx hb dX0_fourRounds_279 (lv_at hl 0 rfl) ?_
          refine lv_iadd hx hb dX0_fourRounds_281 ?_
          rw [nI_add i x, ha1 x (by omega), hc4 x (by omega)]
          refine vp_callSi (W.runS (As := [.int (ops k), .int (mem (xN bs (sr k) (i + x))), .int (xW bs ops sc mem k (i + x)), .int (nI (i + x))]) (rest := [.int ((xSt bs (tg k) + xSd (tg k) * nI (i + x)) &&& 63), .ref (q 0)]) ⟨hx, hb, hml, hown, hts⟩ (metX0_result l (ops k) (mem (xN bs (sr k) (i + x))) (xW bs ops sc mem k (i + x)) (nI (i + x))) (va_cwS 4 hts (lw_S q123 q124 q14 q125) rfl rfl rfl (by decide +kernel) ⟨Nat.le_of_ble_eq_true rfl, Nat.le_of_ble_eq_true rfl⟩) ⟨ha_N_blind, fun U hU hW => ⟨rfl, trivial⟩⟩ rfl rfl hl.1 rfl (lv_room (Nat.le_of_ble_eq_true rfl)) dX0_fourRounds_282 ⟨Nat.le_of_ble_eq_true rfl, Nat.le_of_ble_eq_true rfl⟩) (fun r_ hw => ?_)
          have hw : r_ = xRes (ops k) (mem (xN bs (sr k) (i + x))) (xW bs ops sc mem k (i + x)) (nI (i + x)) := hw
          subst hw
          refine va_iast hx hb hK hP hD hS 1 0 rfl rfl (pk_andIn _ 6 (by decide) (by decide)) dX0_fourRounds_285 (fun H locs hP hD hS => ?_)
          have hP : va_P (dC, dI) vwCl (xw dA dZ h q (upd (xS4 bs ops tg sr sc k i mem x) ((xSt bs (tg k) + xSd (tg k) * nI (i + x)) &&& 63).toNatClampNeg (xRes (ops k) (mem (xN bs (sr k) (i + x))) (xW bs ops sc mem k (i + x)) (nI (i + x)))) bs ops tg sr sc fa fc ur uw cnt us sm) H := hP
          have hD : va_D A (xw dA dZ h q (upd (xS4 bs ops tg sr sc k i mem x) ((xSt bs (tg k) + xSd (tg k) * nI (i + x)) &&& 63).toNatClampNeg (xRes (ops k) (mem (xN bs (sr k) (i + x))) (xW bs ops sc mem k (i + x)) (nI (i + x)))) bs ops tg sr sc fa fc ur uw cnt us sm) := hD
          refine lv_iload hx hb dX0_fourRounds_286 (lv_at hl 1 rfl) ?_
          refine lv_aload_n hx hb dX0_fourRounds_288 rfl (lv_at hl 2 rfl) ?_
          refine va_get (D := (dC, dI)) (ci := 0) (v := .ref (q 3)) (C := RX0) (T := TX0) (N := 13) hx hb hts in_X0 hown hK hP 0 rfl rfl 3 (by decide) (hts _ q27) (fun _ h9 => h9) rfl dX0_fourRounds_289 ?_
          refine lv_iload_n hx hb dX0_fourRounds_292 rfl (lv_at hl 3 rfl) ?_
          refine ha_ld hx hb hK hP 4 0 rfl rfl k (rfl) (hk) (by decide) dX0_fourRounds_293 ?_
          refine vp_callSi (W.runS (As := [.int (tg k)]) (rest := [.int (xSt bs (tg k) + xSd (tg k) * nI (i + x))]) ⟨hx, hb, hml, hown, hts⟩ (metX0_strideOf l (tg k)) (va_cwS 1 hts (lw_S q112 q113 q14 q114) rfl rfl rfl (by decide +kernel) ⟨Nat.le_of_ble_eq_true rfl, Nat.le_of_ble_eq_true rfl⟩) ⟨ha_N_blind, fun U hU hW => ⟨rfl, trivial⟩⟩ rfl rfl hl.1 rfl (lv_room (Nat.le_of_ble_eq_true rfl)) dX0_fourRounds_294 ⟨Nat.le_of_ble_eq_true rfl, Nat.le_of_ble_eq_true rfl⟩) (fun r_ hw => ?_)
          have hw : r_ = xSd (tg k) := hw
          subst hw
          refine lv_iadd hx hb dX0_fourRounds_297 ?_
          refine lv_istore (lv' := [(4, .int ((xSt bs (tg k) + xSd (tg k) * nI (i + x)) + (xSd (tg k)))), (5, .int (nI x)), (0, .ref h), (1, .int (nI k)), (2, .int (nI i))]) hx hb dX0_fourRounds_298 hl (by decide) rfl (fun ls hl => ?_)
          refine lv_iinc (v := nI (x + 1)) (lv' := [(5, .int (nI (x + 1))), (4, .int ((xSt bs (tg k) + xSd (tg k) * nI (i + x)) + (xSd (tg k)))), (0, .ref h), (1, .int (nI k)), (2, .int (nI i))]) hx hb dX0_fourRounds_300 hl (k := 1) rfl (nI_1 x) (by decide) rfl (fun ls hl => ?_)
          refine lv_goto (tgt := 243) hx hb dX0_fourRounds_303 (by decide) ?_
          exact ih3 (x + 1, H, locs, ls) ⟨by omega, hP, hD, hS, by show lv_has ls 6 [(5, .int (nI (x + 1))), (4, .int (xSt bs (tg k) + xSd (tg k) * nI (i + (x + 1)))), (0, .ref h), (1, .int (nI k)), (2, .int (nI i))]; rw [show i + (x + 1) = i + x + 1 from rfl, ← xLine_s]; exact lv_sub hl [0, 1, 2, 3, 4] rfl⟩ (by dsimp only; omega)
      · refine lv_aload_n hx hb dX0_fourRounds_172 rfl (lv_at hl 0 rfl) ?_
        refine lv_dup hx hb dX0_fourRounds_173 rfl ?_
        refine va_get (D := (dC, dI)) (ci := 0) (v := .int sm) (C := RX0) (T := TX0) (N := 13) hx hb hts in_X0 hown hK hP 0 rfl rfl 12 (by decide) (hts _ q36) (fun _ h9 => h9) rfl dX0_fourRounds_174 ?_
        refine lv_aload_n hx hb dX0_fourRounds_177 rfl (lv_at hl 0 rfl) ?_
        refine va_get (D := (dC, dI)) (ci := 0) (v := .ref (q 6)) (C := RX0) (T := TX0) (N := 13) hx hb hts in_X0 hown hK hP 0 rfl rfl 6 (by decide) (hts _ q30) (fun _ h9 => h9) rfl dX0_fourRounds_178 ?_
        refine lv_iconst (v := 0) hx hb dX0_fourRounds_181 (by decide) ?_
        refine ha_ld hx hb hK hP 7 0 rfl rfl 0 (rfl) (by decide) (by decide) dX0_fourRounds_182 ?_
        refine lv_aload_n hx hb dX0_fourRounds_183 rfl (lv_at hl 0 rfl) ?_
        refine va_get (D := (dC, dI)) (ci := 0) (v := .ref (q 6)) (C := RX0) (T := TX0) (N := 13) hx hb hts in_X0 hown hK hP 0 rfl rfl 6 (by decide) (hts _ q30) (fun _ h9 => h9) rfl dX0_fourRounds_184 ?_
        refine lv_iconst (v := 1) hx hb dX0_fourRounds_187 (by decide) ?_
        refine ha_ld hx hb hK hP 7 0 rfl rfl 1 (rfl) (by decide) (by decide) dX0_fourRounds_188 ?_
        refine lv_iadd hx hb dX0_fourRounds_189 ?_
        refine lv_aload_n hx hb dX0_fourRounds_190 rfl (lv_at hl 0 rfl) ?_
        refine va_get (D := (dC, dI)) (ci := 0) (v := .ref (q 6)) (C := RX0) (T := TX0) (N := 13) hx hb hts in_X0 hown hK hP 0 rfl rfl 6 (by decide) (hts _ q30) (fun _ h9 => h9) rfl dX0_fourRounds_191 ?_
        refine lv_iconst (v := 2) hx hb dX0_fourRounds_194 (by decide) ?_
        refine ha_ld hx hb hK hP 7 0 rfl rfl 2 (rfl) (by decide) (by decide) dX0_fourRounds_195 ?_
        refine lv_iadd hx hb dX0_fourRounds_196 ?_
        refine lv_aload_n hx hb dX0_fourRounds_197 rfl (lv_at hl 0 rfl) ?_
        refine va_get (D := (dC, dI)) (ci := 0) (v := .ref (q 6)) (C := RX0) (T := TX0) (N := 13) hx hb hts in_X0 hown hK hP 0 rfl rfl 6 (by decide) (hts _ q30) (fun _ h9 => h9) rfl dX0_fourRounds_198 ?_
        refine lv_iconst (v := 3) hx hb dX0_fourRounds_201 (by decide) ?_
        refine ha_ld hx hb hK hP 7 0 rfl rfl 3 (rfl) (by decide) (by decide) dX0_fourRounds_202 ?_
        refine lv_iadd hx hb dX0_fourRounds_203 ?_
        refine lv_aload_n hx hb dX0_fourRounds_204 rfl (lv_at hl 0 rfl) ?_
        refine va_get (D := (dC, dI)) (ci := 0) (v := .ref (q 5)) (C := RX0) (T := TX0) (N := 13) hx hb hts in_X0 hown hK hP 0 rfl rfl 5 (by decide) (hts _ q29) (fun _ h9 => h9) rfl dX0_fourRounds_205 ?_
        refine lv_iload_n hx hb dX0_fourRounds_208 rfl (lv_at hl 1 rfl) ?_
        refine ha_ld hx hb hK hP 6 0 rfl rfl k (rfl) (hk) (by decide) dX0_fourRounds_209 ?_
        refine lv_imul hx hb dX0_fourRounds_210 ?_
        refine lv_iadd hx hb dX0_fourRounds_211 ?_
        refine va_put (D := (dC, dI)) (ci := 0) (v := .int (sm + (((((fa 0) + (fa 1)) + (fa 2)) + (fa 3)) * (sc k)))) (ty := .int) (C := RX0) (T := TX0) (N := 13) hx hb hts in_X0 tyX0 tyX0_ok nmX0 hown hK hP hD hS 0 rfl rfl 12 (by decide) (hts _ q36) (fun _ h9 => h9) rfl (by decide +kernel) rfl rfl (Nat.le_of_ble_eq_true rfl) dX0_fourRounds_212 (fun H locs hP hD hS => ?_)
        have hP : va_P (dC, dI) vwCl (xw dA dZ h q mem bs ops tg sr sc fa fc ur uw cnt us (sm + (((((fa 0) + (fa 1)) + (fa 2)) + (fa 3)) * (sc k)))) H := hP
        have hD : va_D A (xw dA dZ h q mem bs ops tg sr sc fa fc ur uw cnt us (sm + (((((fa 0) + (fa 1)) + (fa 2)) + (fa 3)) * (sc k)))) := hD
        exact W.vret hx hb hr (fun t ht hW => ⟨⟨(fa, fc), rfl, trivial, by rw [ht, st4_s c_2 ha1]; exact hP, va_K.moved hW.alike hK, by rw [st4_s c_2 ha1]; exact hD⟩, hS.F ht⟩) hS.2.2 dX0_fourRounds_215
    · refine lv_aload_n hx hb dX0_fourRounds_79 rfl (lv_at hl 2 rfl) ?_
      refine va_get (D := (dC, dI)) (ci := 0) (v := .ref (q 2)) (C := RX0) (T := TX0) (N := 13) hx hb hts in_X0 hown hK hP 0 rfl rfl 2 (by decide) (hts _ q26) (fun _ h9 => h9) rfl dX0_fourRounds_80 ?_
      refine lv_iload_n hx hb dX0_fourRounds_83 rfl (lv_at hl 3 rfl) ?_
      refine ha_ld hx hb hK hP 3 0 rfl rfl k (rfl) (hk) (by decide) dX0_fourRounds_84 ?_
      refine vp_callSi (W.runS (As := [.int (ops k)]) (rest := []) ⟨hx, hb, hml, hown, hts⟩ (metX0_takesTwo l (ops k)) (va_cwS 1 hts (lw_S q73 q74 q14 q75) rfl rfl rfl (by decide +kernel) ⟨Nat.le_of_ble_eq_true rfl, Nat.le_of_ble_eq_true rfl⟩) ⟨ha_N_blind, fun U hU hW => ⟨rfl, trivial⟩⟩ rfl rfl hl.1 rfl (lv_room (Nat.le_of_ble_eq_true rfl)) dX0_fourRounds_85 ⟨Nat.le_of_ble_eq_true rfl, Nat.le_of_ble_eq_true rfl⟩) (fun r_ hw => ?_)
      have hb_4 : ¬ r_ = 0 ↔ xTwo (ops k) := hw
      clear hw
      generalize r_ = b_4 at hb_4 ⊢
      refine lv_if_eq (tgt := 161) hx hb dX0_fourRounds_88 (by decide) (fun c_5 => ?_) (fun c_5 => ?_)
      · have hn2 : ¬ xTwo (ops k) := fun z => hb_4.mpr z c_5
        exact K (fb, H, locs, ls) ⟨fun x hx => by rw [xW_no hn2]; exact hb1 x hx, hP, hD, hS, lv_sub hl [2, 3, 4] rfl⟩
      · have hy2 := hb_4.mp c_5
        refine lv_aload_n hx hb dX0_fourRounds_91 rfl (lv_at hl 2 rfl) ?_
        refine lv_aload_n hx hb dX0_fourRounds_92 rfl (lv_at hl 2 rfl) ?_
        refine va_get (D := (dC, dI)) (ci := 0) (v := .ref (q 5)) (C := RX0) (T := TX0) (N := 13) hx hb hts in_X0 hown hK hP 0 rfl rfl 5 (by decide) (hts _ q29) (fun _ h9 => h9) rfl dX0_fourRounds_93 ?_
        refine lv_iload_n hx hb dX0_fourRounds_96 rfl (lv_at hl 3 rfl) ?_
        refine ha_ld hx hb hK hP 6 0 rfl rfl k (rfl) (hk) (by decide) dX0_fourRounds_97 ?_
        refine vp_callSi (W.runV (As := [.int (sc k)]) (rest := []) ⟨hx, hb, hml, hown, hts⟩ (metX0_startOf l dC dI dA dZ h q mem bs ops tg sr sc fa fb ur uw cnt us sm (sc k)) (cwV 1 hts (lw_V q108 q110 qs3 q14 q111) rfl rfl rfl (by decide +kernel) ⟨Nat.le_of_ble_eq_true rfl, Nat.le_of_ble_eq_true rfl⟩) ⟨ha_R_blind, va_recv hK hP (ci := 0) (q0 := 0) rfl rfl, fun U hU hW => ⟨rfl, by rw [hU]; exact hP, va_K.moved hW.alike hK⟩⟩ rfl rfl hl.1 rfl (lv_room (Nat.le_of_ble_eq_true rfl)) dX0_fourRounds_98 ⟨Nat.le_of_ble_eq_true rfl, Nat.le_of_ble_eq_true rfl⟩) (fun r_ hw => ?_)
        have hw : r_ = xSt bs (sc k) := hw
        subst hw
        refine lv_aload_n hx hb dX0_fourRounds_101 rfl (lv_at hl 2 rfl) ?_
        refine va_get (D := (dC, dI)) (ci := 0) (v := .ref (q 5)) (C := RX0) (T := TX0) (N := 13) hx hb hts in_X0 hown hK hP 0 rfl rfl 5 (by decide) (hts _ q29) (fun _ h9 => h9) rfl dX0_fourRounds_102 ?_
        refine lv_iload_n hx hb dX0_fourRounds_105 rfl (lv_at hl 3 rfl) ?_
        refine ha_ld hx hb hK hP 6 0 rfl rfl k (rfl) (hk) (by decide) dX0_fourRounds_106 ?_
        refine vp_callSi (W.runS (As := [.int (sc k)]) (rest := [.int (xSt bs (sc k))]) ⟨hx, hb, hml, hown, hts⟩ (metX0_strideOf l (sc k)) (va_cwS 1 hts (lw_S q112 q113 q14 q114) rfl rfl rfl (by decide +kernel) ⟨Nat.le_of_ble_eq_true rfl, Nat.le_of_ble_eq_true rfl⟩) ⟨ha_N_blind, fun U hU hW => ⟨rfl, trivial⟩⟩ rfl rfl hl.1 rfl (lv_room (Nat.le_of_ble_eq_true rfl)) dX0_fourRounds_107 ⟨Nat.le_of_ble_eq_true rfl, Nat.le_of_ble_eq_true rfl⟩) (fun r_ hw => ?_)
        have hw : r_ = xSd (sc k) := hw
        subst hw
        refine lv_iload_n hx hb dX0_fourRounds_110 rfl (lv_at hl 4 rfl) ?_
        refine lv_imul hx hb dX0_fourRounds_111 ?_
        refine lv_iadd hx hb dX0_fourRounds_112 ?_
        refine lv_istore (lv' := [(4, .int ((xSt bs (sc k)) + ((xSd (sc k)) * (nI i)))), (3, .int (xSt bs (sr k) + xSd (sr k) * nI (i + j))), (0, .ref h), (1, .int (nI k)), (2, .int (nI i))]) hx hb dX0_fourRounds_113 hl (by decide) rfl (fun ls hl => ?_)
        refine lv_iconst (v := 0) hx hb dX0_fourRounds_115 (by decide) ?_
        refine lv_istore (lv' := [(5, .int 0), (4, .int ((xSt bs (sc k)) + ((xSd (sc k)) * (nI i)))), (3, .int (xSt bs (sr k) + xSd (sr k) * nI (i + j))), (0, .ref h), (1, .int (nI k)), (2, .int (nI i))]) hx hb dX0_fourRounds_116 hl (by decide) rfl (fun ls hl => ?_)
        refine ha_loop (σ := Nat × ha_F × Heap × List Loc × Array Slot) (fun x => 4 - x.1) (fun x => (x.1 ≤ 4) ∧ (∀ o, o < x.1 → x.2.1 o = mem (xN bs (sc k) (i + o))) ∧ (va_P (dC, dI) vwCl (xw dA dZ h q mem bs ops tg sr sc fa x.2.1 ur uw cnt us sm) x.2.2.1) ∧ (va_D A (xw dA dZ h q mem bs ops tg sr sc fa x.2.1 ur uw cnt us sm)) ∧ (va_S A s.heap x.2.2.1 x.2.2.2.1) ∧ (lv_has x.2.2.2.2 6 [(5, .int (nI (x.1))), (4, .int (xSt bs (sc k) + xSd (sc k) * nI (i + (x.1)))), (0, .ref h), (1, .int (nI k)), (2, .int (nI i))])) (fun x => x.2.2.1) (fun x => x.2.2.2.1) (fun x => F0 m 118 x.2.2.2.2 []) ?_ (0, fb, H, locs, ls) ⟨Nat.zero_le _, lt_0, hP, hD, hS, lv_sub hl [0, 1, 3, 4, 5] rfl⟩
        rintro ⟨y, fd, H, locs, ls⟩ ⟨hy, hc1, hP, hD, hS, hl⟩ ih2
        have hy : y ≤ 4 := hy
        have hc1 : ∀ o, o < y → fd o = mem (xN bs (sc k) (i + o)) := hc1
        have hP : va_P (dC, dI) vwCl (xw dA dZ h q mem bs ops tg sr sc fa fd ur uw cnt us sm) H := hP
        have hD : va_D A (xw dA dZ h q mem bs ops tg sr sc fa fd ur uw cnt us sm) := hD
        have hS : va_S A s.heap H locs := hS
        have hl : lv_has ls 6 [(5, .int (nI y)), (4, .int (xSt bs (sc k) + xSd (sc k) * nI (i + y))), (0, .ref h), (1, .int (nI k)), (2, .int (nI i))] := hl
        show W p l e _ s m _ below meth c H locs _ _ _ (F0 m 118 ls [])
        refine lv_iload hx hb dX0_fourRounds_118 (lv_at hl 0 rfl) ?_
        refine lv_iconst (v := 4) hx hb dX0_fourRounds_120 (by decide) ?_
        refine lv_icmp_ge (tgt := 161) hx hb dX0_fourRounds_121 (by decide) (fun c_6 => ?_) (fun c_6 => ?_)
        · have hy4 : y = 4 := by have z := (nI_leI (a := 4) (b := y) (by decide) (by omega)).mp c_6; omega
          rw [hy4] at hc1
          exact K (fd, H, locs, ls) ⟨fun x hx => by rw [xW_two hy2]; exact hc1 x hx, hP, hD, hS, lv_sub hl [2, 3, 4] rfl⟩
        · have hlt2 : y < 4 := by rcases Nat.lt_or_ge y 4 with z | z; exact z; exact absurd (nI_le z (by omega)) c_6
          refine lv_aload_n hx hb dX0_fourRounds_124 rfl (lv_at hl 2 rfl) ?_
          refine va_get (D := (dC, dI)) (ci := 0) (v := .ref (q 7)) (C := RX0) (T := TX0) (N := 13) hx hb hts in_X0 hown hK hP 0 rfl rfl 7 (by decide) (hts _ q31) (fun _ h9 => h9) rfl dX0_fourRounds_125 ?_
          refine lv_iload hx hb dX0_fourRounds_128 (lv_at hl 0 rfl) ?_
          refine lv_aload_n hx hb dX0_fourRounds_130 rfl (lv_at hl 2 rfl) ?_
          refine va_get (D := (dC, dI)) (ci := 0) (v := .ref (q 0)) (C := RX0) (T := TX0) (N := 13) hx hb hts in_X0 hown hK hP 0 rfl rfl 0 (by decide) (hts _ q24) (fun _ h9 => h9) rfl dX0_fourRounds_131 ?_
          refine lv_iload hx hb dX0_fourRounds_134 (lv_at hl 1 rfl) ?_
          refine lv_bipush (v := 63) hx hb dX0_fourRounds_136 (by decide) ?_
          refine lv_iand hx hb dX0_fourRounds_138 ?_
          refine va_iald hx hb hK hP 1 0 rfl rfl (pk_andIn _ 6 (by decide) (by decide)) dX0_fourRounds_139 ?_
          refine ha_st hx hb hK hP hD hS 8 0 rfl rfl y (rfl) (hlt2) (by decide) dX0_fourRounds_140 (fun H locs hP hD hS => ?_)
          have hP : va_P (dC, dI) vwCl (xw dA dZ h q mem bs ops tg sr sc fa (upd fd y (mem ((xSt bs (sc k) + xSd (sc k) * nI (i + y)) &&& 63).toNatClampNeg)) ur uw cnt us sm) H := hP
          have hD : va_D A (xw dA dZ h q mem bs ops tg sr sc fa (upd fd y (mem ((xSt bs (sc k) + xSd (sc k) * nI (i + y)) &&& 63).toNatClampNeg)) ur uw cnt us sm) := hD
          refine lv_iload hx hb dX0_fourRounds_141 (lv_at hl 1 rfl) ?_
          refine lv_aload_n hx hb dX0_fourRounds_143 rfl (lv_at hl 2 rfl) ?_
          refine va_get (D := (dC, dI)) (ci := 0) (v := .ref (q 5)) (C := RX0) (T := TX0) (N := 13) hx hb hts in_X0 hown hK hP 0 rfl rfl 5 (by decide) (hts _ q29) (fun _ h9 => h9) rfl dX0_fourRounds_144 ?_
          refine lv_iload_n hx hb dX0_fourRounds_147 rfl (lv_at hl 3 rfl) ?_
          refine ha_ld hx hb hK hP 6 0 rfl rfl k (rfl) (hk) (by decide) dX0_fourRounds_148 ?_
          refine vp_callSi (W.runS (As := [.int (sc k)]) (rest := [.int (xSt bs (sc k) + xSd (sc k) * nI (i + y))]) ⟨hx, hb, hml, hown, hts⟩ (metX0_strideOf l (sc k)) (va_cwS 1 hts (lw_S q112 q113 q14 q114) rfl rfl rfl (by decide +kernel) ⟨Nat.le_of_ble_eq_true rfl, Nat.le_of_ble_eq_true rfl⟩) ⟨ha_N_blind, fun U hU hW => ⟨rfl, trivial⟩⟩ rfl rfl hl.1 rfl (lv_room (Nat.le_of_ble_eq_true rfl)) dX0_fourRounds_149 ⟨Nat.le_of_ble_eq_true rfl, Nat.le_of_ble_eq_true rfl⟩) (fun r_ hw => ?_)
          have hw : r_ = xSd (sc k) := hw
          subst hw
          refine lv_iadd hx hb dX0_fourRounds_152 ?_
          refine lv_istore (lv' := [(4, .int ((xSt bs (sc k) + xSd (sc k) * nI (i + y)) + (xSd (sc k)))), (5, .int (nI y)), (0, .ref h), (1, .int (nI k)), (2, .int (nI i))]) hx hb dX0_fourRounds_153 hl (by decide) rfl (fun ls hl => ?_)
          refine lv_iinc (v := nI (y + 1)) (lv' := [(5, .int (nI (y + 1))), (4, .int ((xSt bs (sc k) + xSd (sc k) * nI (i + y)) + (xSd (sc k)))), (0, .ref h), (1, .int (nI k)), (2, .int (nI i))]) hx hb dX0_fourRounds_155 hl (k := 1) rfl (nI_1 y) (by decide) rfl (fun ls hl => ?_)
          refine lv_goto (tgt := 118) hx hb dX0_fourRounds_158 (by decide) ?_
          exact ih2 (y + 1, (upd fd y (mem ((xSt bs (sc k) + xSd (sc k) * nI (i + y)) &&& 63).toNatClampNeg)), H, locs, ls) ⟨by omega, upd_ext hc1 rfl, hP, hD, hS, by show lv_has ls 6 [(5, .int (nI (y + 1))), (4, .int (xSt bs (sc k) + xSd (sc k) * nI (i + (y + 1)))), (0, .ref h), (1, .int (nI k)), (2, .int (nI i))]; rw [show i + (y + 1) = i + y + 1 from rfl, ← xLine_s]; exact lv_sub hl [0, 1, 2, 3, 4] rfl⟩ (by dsimp only; omega)
  · have hlt : j < 4 := by rcases Nat.lt_or_ge j 4 with z | z; exact z; exact absurd (nI_le z (by omega)) c_1
    refine lv_aload_n hx hb dX0_fourRounds_32 rfl (lv_at hl 2 rfl) ?_
    refine va_get (D := (dC, dI)) (ci := 0) (v := .ref (q 6)) (C := RX0) (T := TX0) (N := 13) hx hb hts in_X0 hown hK hP 0 rfl rfl 6 (by decide) (hts _ q30) (fun _ h9 => h9) rfl dX0_fourRounds_33 ?_
    refine lv_iload hx hb dX0_fourRounds_36 (lv_at hl 0 rfl) ?_
    refine lv_aload_n hx hb dX0_fourRounds_38 rfl (lv_at hl 2 rfl) ?_
    refine va_get (D := (dC, dI)) (ci := 0) (v := .ref (q 0)) (C := RX0) (T := TX0) (N := 13) hx hb hts in_X0 hown hK hP 0 rfl rfl 0 (by decide) (hts _ q24) (fun _ h9 => h9) rfl dX0_fourRounds_39 ?_
    refine lv_iload_n hx hb dX0_fourRounds_42 rfl (lv_at hl 1 rfl) ?_
    refine lv_bipush (v := 63) hx hb dX0_fourRounds_43 (by decide) ?_
    refine lv_iand hx hb dX0_fourRounds_45 ?_
    refine va_iald hx hb hK hP 1 0 rfl rfl (pk_andIn _ 6 (by decide) (by decide)) dX0_fourRounds_46 ?_
    refine ha_st hx hb hK hP hD hS 7 0 rfl rfl j (rfl) (hlt) (by decide) dX0_fourRounds_47 (fun H locs hP hD hS => ?_)
    have hP : va_P (dC, dI) vwCl (xw dA dZ h q mem bs ops tg sr sc (upd fa j (mem ((xSt bs (sr k) + xSd (sr k) * nI (i + j)) &&& 63).toNatClampNeg)) fb ur uw cnt us sm) H := hP
    have hD : va_D A (xw dA dZ h q mem bs ops tg sr sc (upd fa j (mem ((xSt bs (sr k) + xSd (sr k) * nI (i + j)) &&& 63).toNatClampNeg)) fb ur uw cnt us sm) := hD
    refine lv_iload_n hx hb dX0_fourRounds_48 rfl (lv_at hl 1 rfl) ?_
    refine lv_aload_n hx hb dX0_fourRounds_49 rfl (lv_at hl 2 rfl) ?_
    refine va_get (D := (dC, dI)) (ci := 0) (v := .ref (q 4)) (C := RX0) (T := TX0) (N := 13) hx hb hts in_X0 hown hK hP 0 rfl rfl 4 (by decide) (hts _ q28) (fun _ h9 => h9) rfl dX0_fourRounds_50 ?_
    refine lv_iload_n hx hb dX0_fourRounds_53 rfl (lv_at hl 3 rfl) ?_
    refine ha_ld hx hb hK hP 5 0 rfl rfl k (rfl) (hk) (by decide) dX0_fourRounds_54 ?_
    refine vp_callSi (W.runS (As := [.int (sr k)]) (rest := [.int (xSt bs (sr k) + xSd (sr k) * nI (i + j))]) ⟨hx, hb, hml, hown, hts⟩ (metX0_strideOf l (sr k)) (va_cwS 1 hts (lw_S q112 q113 q14 q114) rfl rfl rfl (by decide +kernel) ⟨Nat.le_of_ble_eq_true rfl, Nat.le_of_ble_eq_true rfl⟩) ⟨ha_N_blind, fun U hU hW => ⟨rfl, trivial⟩⟩ rfl rfl hl.1 rfl (lv_room (Nat.le_of_ble_eq_true rfl)) dX0_fourRounds_55 ⟨Nat.le_of_ble_eq_true rfl, Nat.le_of_ble_eq_true rfl⟩) (fun r_ hw => ?_)
    have hw : r_ = xSd (sr k) := hw
    subst hw
    refine lv_iadd hx hb dX0_fourRounds_58 ?_
    refine lv_istore_n (lv' := [(3, .int ((xSt bs (sr k) + xSd (sr k) * nI (i + j)) + (xSd (sr k)))), (4, .int (nI j)), (0, .ref h), (1, .int (nI k)), (2, .int (nI i))]) hx hb dX0_fourRounds_59 rfl hl (by decide) rfl (fun ls hl => ?_)
    refine lv_aload_n hx hb dX0_fourRounds_60 rfl (lv_at hl 2 rfl) ?_
    refine va_get (D := (dC, dI)) (ci := 0) (v := .ref (q 7)) (C := RX0) (T := TX0) (N := 13) hx hb hts in_X0 hown hK hP 0 rfl rfl 7 (by decide) (hts _ q31) (fun _ h9 => h9) rfl dX0_fourRounds_61 ?_
    refine lv_iload hx hb dX0_fourRounds_64 (lv_at hl 1 rfl) ?_
    refine lv_aload_n hx hb dX0_fourRounds_66 rfl (lv_at hl 2 rfl) ?_
    refine va_get (D := (dC, dI)) (ci := 0) (v := .ref (q 5)) (C := RX0) (T := TX0) (N := 13) hx hb hts in_X0 hown hK hP 0 rfl rfl 5 (by decide) (hts _ q29) (fun _ h9 => h9) rfl dX0_fourRounds_67 ?_
    refine lv_iload_n hx hb dX0_fourRounds_70 rfl (lv_at hl 3 rfl) ?_
    refine ha_ld hx hb hK hP 6 0 rfl rfl k (rfl) (hk) (by decide) dX0_fourRounds_71 ?_
    refine ha_st hx hb hK hP hD hS 8 0 rfl rfl j (rfl) (hlt) (by decide) dX0_fourRounds_72 (fun H locs hP hD hS => ?_)
    have hP : va_P (dC, dI) vwCl (xw dA dZ h q mem bs ops tg sr sc (upd fa j (mem ((xSt bs (sr k) + xSd (sr k) * nI (i + j)) &&& 63).toNatClampNeg)) (upd fb j (sc k)) ur uw cnt us sm) H := hP
    have hD : va_D A (xw dA dZ h q mem bs ops tg sr sc (upd fa j (mem ((xSt bs (sr k) + xSd (sr k) * nI (i + j)) &&& 63).toNatClampNeg)) (upd fb j (sc k)) ur uw cnt us sm) := hD
    refine lv_iinc (v := nI (j + 1)) (lv' := [(4, .int (nI (j + 1))), (3, .int ((xSt bs (sr k) + xSd (sr k) * nI (i + j)) + (xSd (sr k)))), (0, .ref h), (1, .int (nI k)), (2, .int (nI i))]) hx hb dX0_fourRounds_73 hl (k := 1) rfl (nI_1 j) (by decide) rfl (fun ls hl => ?_)
    refine lv_goto (tgt := 26) hx hb dX0_fourRounds_76 (by decide) ?_
    exact ih (j + 1, (upd fa j (mem ((xSt bs (sr k) + xSd (sr k) * nI (i + j)) &&& 63).toNatClampNeg)), (upd fb j (sc k)), H, locs, ls) ⟨by omega, upd_ext ha1 rfl, upd_ext hb1 rfl, hP, hD, hS, by show lv_has ls 6 [(4, .int (nI (j + 1))), (3, .int (xSt bs (sr k) + xSd (sr k) * nI (i + (j + 1)))), (0, .ref h), (1, .int (nI k)), (2, .int (nI i))]; rw [show i + (j + 1) = i + j + 1 from rfl, ← xLine_s]; exact lv_sub hl [0, 1, 2, 3, 4] rfl⟩ (by dsimp only; omega)
end
section
set_option maxHeartbeats 4000000 in
set_option maxRecDepth 100000 in
/-- run: T rounds as they are written -/
theorem metX0_run (l : Launch) (dC : Nat → ClassId) (dI : Nat → Nat → Nat) (dA dZ : ClassId) (h : Nat) (q : Nat → Nat) (u : ha_U) (v : ha_V) (sz : Nat) (p0 : Int32) (hI : aInv u) : Met l yX0_run (ws_ yX0_run cX0_run 4 (some .int)) ({ frames := 3, cells := 0, slots := 0, locals := 81 }) (ha_M dC dI [.ref h, .int p0] sz (xwU dA dZ h q u v) (xT dA dZ)) (va_Qi (S := ha_U × ha_V) (fun (r : Int32) (y : ha_U × ha_V) => (r, y.1) = aRun u p0) (fun y t => ha_B dC dI (va_A (xwU dA dZ h q u v) sz) (xwU dA dZ h q y.1 y.2) (xT dA dZ) t) (va_A (xwU dA dZ h q u v) sz)) 0 0 (va_A (xwU dA dZ h q u v) sz) := by
  obtain ⟨mem, bs, ops, tg, sr, sc, cnt, sm⟩ := u
  obtain ⟨la, lb, ur, uw, us⟩ := v
  obtain ⟨n, hn, hcnt, hst, hbs⟩ := hI
  have hcnt : cnt = nI n := hcnt
  subst hcnt
  have hst : ∀ k, k < n → ¬ ops k < 0 ∧ ¬ 7 < ops k ∧ xRef (tg k) ∧ xRef (sr k) ∧ (xTwo (ops k) → xRef (sc k)) := hst
  have hbs : ∀ r, r < 4 → ¬ bs r < 0 ∧ bs r < 64 := hbs
  refine Met.ofW (cc := cX0_run) (maxL := 4) (ret := (some .int)) (by decide) rfl ?_
  intro p e s m args below meth c s₁ B hml hv
  obtain ⟨rfl, hsz, hP, hK, hD0⟩ := hv
  have hx := B.exec
  have hb := B.bytes
  have hr := B.returns
  have hts := atoms_spec (ws := ws_ yX0_run cX0_run 4 (some .int)) B.pre
  have hts : ∀ w ∈ lw_all, w.before _ s = true := fun w h => hts w (List.mem_cons_of_mem _ h)
  have hown : s.vm.findClass RX0 = some m.cls := findClass_of_methodNamed B.named
  have hlocks := B.notSynchronized
  subst hsz
  have hD := hD0.self (sz := s.heap.size)
  generalize hAe : va_A (xwU dA dZ h q (mem, bs, ops, tg, sr, sc, nI n, sm) (la, lb, ur, uw, us)) s.heap.size = A at hD ⊢
  have hA : ∀ q : Nat, s.heap.size ≤ q → A q := fun q h => by rw [← hAe]; exact Or.inr h
  have hS : va_S A s.heap s.heap [] := va_S.rf
  have hD : va_D A (xw dA dZ h q mem bs ops tg sr sc la lb ur uw (nI n) us sm) := hD
  have hP : va_P (dC, dI) vwCl (xw dA dZ h q mem bs ops tg sr sc la lb ur uw (nI n) us sm) s.heap := hP
  have hl := lv_entry ([.ref h, .int p0]) (n := 4) (Nat.le_of_ble_eq_true rfl)
  rw [lg_entry_eq]
  generalize (lg_sl ([.ref h, .int p0]) ++ List.replicate (4 - (lg_sl ([.ref h, .int p0])).length) Slot.unset).toArray = ls at hl ⊢
  have hl : lv_has ls 4 [(0, .ref h), (1, .int p0)] := hl
  refine lv_iload_n hx hb dX0_run_0 rfl (lv_at hl 1 rfl) ?_
  refine lv_if_lt (tgt := 10) hx hb dX0_run_1 (by decide) (fun c_1 => ?_) (fun c_1 => ?_)
  · refine lv_iconst (v := (-1)) hx hb dX0_run_10 (by decide) ?_
    exact W.iret (v := (-1)) hx hb hr (fun t ht hW => ⟨⟨(-1), ((mem, bs, ops, tg, sr, sc, (nI n), sm), (la, lb, ur, uw, us)), rfl, (aRu_1 (u := (mem, bs, ops, tg, sr, sc, nI n, sm)) (Or.inl c_1)).symm, by rw [ht]; exact hP, va_K.moved hW.alike hK, hD⟩, hS.F ht⟩) hS.2.2 dX0_run_11
  · refine lv_iload_n hx hb dX0_run_4 rfl (lv_at hl 1 rfl) ?_
    refine lv_bipush (v := 40) hx hb dX0_run_5 (by decide) ?_
    refine lv_icmp_le (tgt := 12) hx hb dX0_run_7 (by decide) (fun c_2 => ?_) (fun c_2 => ?_)
    · have hg : ¬ (p0 < 0 ∨ 40 < p0) := fun z => z.elim c_1 (fa_of_le_not c_2)
      obtain ⟨T, hT2, eT⟩ := ha_t40 c_1 (fa_of_le_not c_2)
      subst eT
      refine lv_iconst (v := 0) hx hb dX0_run_12 (by decide) ?_
      refine lv_istore_n (lv' := [(2, .int 0), (0, .ref h), (1, .int (nI T))]) hx hb dX0_run_13 rfl hl (by decide) rfl (fun ls hl => ?_)
      refine ha_joinH (α := Nat × ha_F × ha_F × ha_F × ha_F × Int32 × Heap × List Loc × Array Slot) (P := fun x => (x.1 ≤ T) ∧ (va_P (dC, dI) vwCl (xw dA dZ h q ((xRn bs ops tg sr sc n (x.1) (mem, sm)).1) bs ops tg sr sc x.2.1 x.2.2.1 x.2.2.2.1 x.2.2.2.2.1 (nI n) x.2.2.2.2.2.1 ((xRn bs ops tg sr sc n (x.1) (mem, sm)).2)) x.2.2.2.2.2.2.1) ∧ (va_D A (xw dA dZ h q ((xRn bs ops tg sr sc n (x.1) (mem, sm)).1) bs ops tg sr sc x.2.1 x.2.2.1 x.2.2.2.1 x.2.2.2.2.1 (nI n) x.2.2.2.2.2.1 ((xRn bs ops tg sr sc n (x.1) (mem, sm)).2))) ∧ (va_S A s.heap x.2.2.2.2.2.2.1 x.2.2.2.2.2.2.2.1) ∧ (lv_has x.2.2.2.2.2.2.2.2 4 [(2, .int (nI (x.1))), (0, .ref h), (1, .int (nI T))])) (Hh := fun x => x.2.2.2.2.2.2.1) (Ll := fun x => x.2.2.2.2.2.2.2.1) (g := fun x => F0 m 62 x.2.2.2.2.2.2.2.2 []) ?_ (fun K => ?_)
      · rintro ⟨i, ga, gb, gr, gw, gu, H, locs, ls⟩ ⟨hi, hP, hD, hS, hl⟩
        have hi : i ≤ T := hi
        have hP : va_P (dC, dI) vwCl (xw dA dZ h q ((xRn bs ops tg sr sc n i (mem, sm)).1) bs ops tg sr sc ga gb gr gw (nI n) gu ((xRn bs ops tg sr sc n i (mem, sm)).2)) H := hP
        have hD : va_D A (xw dA dZ h q ((xRn bs ops tg sr sc n i (mem, sm)).1) bs ops tg sr sc ga gb gr gw (nI n) gu ((xRn bs ops tg sr sc n i (mem, sm)).2)) := hD
        have hS : va_S A s.heap H locs := hS
        have hl : lv_has ls 4 [(2, .int (nI i)), (0, .ref h), (1, .int (nI T))] := hl
        show W p l e _ s m _ below meth c H locs _ _ _ (F0 m 62 ls [])
        refine ha_loop (σ := Nat × Heap × List Loc × Array Slot) (fun x => T - x.1) (fun x => (x.1 ≤ T) ∧ (va_P (dC, dI) vwCl (xw dA dZ h q ((xRn bs ops tg sr sc n (x.1) (mem, sm)).1) bs ops tg sr sc ga gb gr gw (nI n) gu ((xRn bs ops tg sr sc n (x.1) (mem, sm)).2)) x.2.1) ∧ (va_D A (xw dA dZ h q ((xRn bs ops tg sr sc n (x.1) (mem, sm)).1) bs ops tg sr sc ga gb gr gw (nI n) gu ((xRn bs ops tg sr sc n (x.1) (mem, sm)).2))) ∧ (va_S A s.heap x.2.1 x.2.2.1) ∧ (lv_has x.2.2.2 4 [(2, .int (nI (x.1))), (0, .ref h), (1, .int (nI T))])) (fun x => x.2.1) (fun x => x.2.2.1) (fun x => F0 m 62 x.2.2.2 []) ?_ (i, H, locs, ls) ⟨hi, hP, hD, hS, lv_sub hl [0, 1, 2] rfl⟩
        rintro ⟨i, H, locs, ls⟩ ⟨hi, hP, hD, hS, hl⟩ ih3
        have hi : i ≤ T := hi
        have hP : va_P (dC, dI) vwCl (xw dA dZ h q ((xRn bs ops tg sr sc n i (mem, sm)).1) bs ops tg sr sc ga gb gr gw (nI n) gu ((xRn bs ops tg sr sc n i (mem, sm)).2)) H := hP
        have hD : va_D A (xw dA dZ h q ((xRn bs ops tg sr sc n i (mem, sm)).1) bs ops tg sr sc ga gb gr gw (nI n) gu ((xRn bs ops tg sr sc n i (mem, sm)).2)) := hD
        have hS : va_S A s.heap H locs := hS
        have hl : lv_has ls 4 [(2, .int (nI i)), (0, .ref h), (1, .int (nI T))] := hl
        show W p l e _ s m _ below meth c H locs _ _ _ (F0 m 62 ls [])
        refine lv_iload_n hx hb dX0_run_62 rfl (lv_at hl 0 rfl) ?_
        refine lv_iload_n hx hb dX0_run_63 rfl (lv_at hl 2 rfl) ?_
        refine lv_icmp_ge (tgt := 95) hx hb dX0_run_64 (by decide) (fun c_3 => ?_) (fun c_3 => ?_)
        · have hiT : i = T := by have z := (nI_leI (a := T) (b := i) (by omega) (by omega)).mp c_3; omega
          subst hiT
          refine lv_aload_n hx hb dX0_run_95 rfl (lv_at hl 1 rfl) ?_
          refine va_get (D := (dC, dI)) (ci := 0) (v := .int ((xRn bs ops tg sr sc n i (mem, sm)).2)) (C := RX0) (T := TX0) (N := 13) hx hb hts in_X0 hown hK hP 0 rfl rfl 12 (by decide) (hts _ q36) (fun _ h9 => h9) rfl dX0_run_96 ?_
          exact W.iret (v := ((xRn bs ops tg sr sc n i (mem, sm)).2)) hx hb hr (fun t ht hW => ⟨⟨((xRn bs ops tg sr sc n i (mem, sm)).2), ((((xRn bs ops tg sr sc n i (mem, sm)).1), bs, ops, tg, sr, sc, (nI n), ((xRn bs ops tg sr sc n i (mem, sm)).2)), (ga, gb, gr, gw, gu)), rfl, (aRu_2 (u := (mem, bs, ops, tg, sr, sc, nI n, sm)) hg rfl (by omega) rfl (by omega) rfl).symm, by rw [ht]; exact hP, va_K.moved hW.alike hK, hD⟩, hS.F ht⟩) hS.2.2 dX0_run_99
        · have hiT : i < T := by rcases Nat.lt_or_ge i T with z | z; exact z; exact absurd (nI_le z (by omega)) c_3
          refine lv_iconst (v := 0) hx hb dX0_run_67 (by decide) ?_
          refine lv_istore_n (lv' := [(3, .int 0), (2, .int (nI i)), (0, .ref h), (1, .int (nI T))]) hx hb dX0_run_68 rfl hl (by decide) rfl (fun ls hl => ?_)
          refine ha_loop (σ := Nat × Heap × List Loc × Array Slot) (fun x => n - x.1) (fun x => (x.1 ≤ n) ∧ (va_P (dC, dI) vwCl (xw dA dZ h q ((ha_fold (fun k => st1 bs ops tg sr sc k i) (x.1) (xRn bs ops tg sr sc n i (mem, sm))).1) bs ops tg sr sc ga gb gr gw (nI n) gu ((ha_fold (fun k => st1 bs ops tg sr sc k i) (x.1) (xRn bs ops tg sr sc n i (mem, sm))).2)) x.2.1) ∧ (va_D A (xw dA dZ h q ((ha_fold (fun k => st1 bs ops tg sr sc k i) (x.1) (xRn bs ops tg sr sc n i (mem, sm))).1) bs ops tg sr sc ga gb gr gw (nI n) gu ((ha_fold (fun k => st1 bs ops tg sr sc k i) (x.1) (xRn bs ops tg sr sc n i (mem, sm))).2))) ∧ (va_S A s.heap x.2.1 x.2.2.1) ∧ (lv_has x.2.2.2 4 [(3, .int (nI (x.1))), (2, .int (nI i)), (0, .ref h), (1, .int (nI T))])) (fun x => x.2.1) (fun x => x.2.2.1) (fun x => F0 m 69 x.2.2.2 []) ?_ (0, H, locs, ls) ⟨Nat.zero_le _, hP, hD, hS, lv_sub hl [0, 1, 2, 3] rfl⟩
          rintro ⟨k, H, locs, ls⟩ ⟨hk, hP, hD, hS, hl⟩ ih4
          have hk : k ≤ n := hk
          have hP : va_P (dC, dI) vwCl (xw dA dZ h q ((ha_fold (fun k => st1 bs ops tg sr sc k i) k (xRn bs ops tg sr sc n i (mem, sm))).1) bs ops tg sr sc ga gb gr gw (nI n) gu ((ha_fold (fun k => st1 bs ops tg sr sc k i) k (xRn bs ops tg sr sc n i (mem, sm))).2)) H := hP
          have hD : va_D A (xw dA dZ h q ((ha_fold (fun k => st1 bs ops tg sr sc k i) k (xRn bs ops tg sr sc n i (mem, sm))).1) bs ops tg sr sc ga gb gr gw (nI n) gu ((ha_fold (fun k => st1 bs ops tg sr sc k i) k (xRn bs ops tg sr sc n i (mem, sm))).2)) := hD
          have hS : va_S A s.heap H locs := hS
          have hl : lv_has ls 4 [(3, .int (nI k)), (2, .int (nI i)), (0, .ref h), (1, .int (nI T))] := hl
          show W p l e _ s m _ below meth c H locs _ _ _ (F0 m 69 ls [])
          refine lv_iload_n hx hb dX0_run_69 rfl (lv_at hl 0 rfl) ?_
          refine lv_aload_n hx hb dX0_run_70 rfl (lv_at hl 2 rfl) ?_
          refine va_get (D := (dC, dI)) (ci := 0) (v := .int (nI n)) (C := RX0) (T := TX0) (N := 13) hx hb hts in_X0 hown hK hP 0 rfl rfl 10 (by decide) (hts _ q34) (fun _ h9 => h9) rfl dX0_run_71 ?_
          refine lv_icmp_ge (tgt := 89) hx hb dX0_run_74 (by decide) (fun c_4 => ?_) (fun c_4 => ?_)
          · have hkn : k = n := by have z := (nI_leI (a := n) (b := k) (by omega) (by omega)).mp c_4; omega
            rw [hkn] at hP hD
            refine lv_iinc (v := nI (i + 1)) (lv' := [(2, .int (nI (i + 1))), (3, .int (nI k)), (0, .ref h), (1, .int (nI T))]) hx hb dX0_run_89 hl (k := 1) rfl (nI_1 i) (by decide) rfl (fun ls hl => ?_)
            refine lv_goto (tgt := 62) hx hb dX0_run_92 (by decide) ?_
            exact ih3 (i + 1, H, locs, ls) ⟨by omega, by dsimp only; rw [← xRn_1]; exact hP, by dsimp only; rw [← xRn_1]; exact hD, hS, lv_sub hl [0, 2, 3] rfl⟩ (by dsimp only; omega)
          · have hlt : k < n := by rcases Nat.lt_or_ge k n with z | z; exact z; exact absurd (nI_le z (by omega)) c_4
            refine lv_aload_n hx hb dX0_run_77 rfl (lv_at hl 2 rfl) ?_
            refine lv_iload_n hx hb dX0_run_78 rfl (lv_at hl 0 rfl) ?_
            refine lv_iload_n hx hb dX0_run_79 rfl (lv_at hl 1 rfl) ?_
            have hFc := va_free (wc := xw dA dZ h q ((ha_fold (fun k => st1 bs ops tg sr sc k i) k (xRn bs ops tg sr sc n i (mem, sm))).1) bs ops tg sr sc ga gb gr gw (nI n) gu ((ha_fold (fun k => st1 bs ops tg sr sc k i) k (xRn bs ops tg sr sc n i (mem, sm))).2)) hD hS hA [0, 1, 2, 3, 4, 5, 6, 7, 8, 9, 10] rfl
            refine va_callv (va_runV (As := [.int (nI k), .int (nI i)]) (rest := []) ⟨hx, hb, hml, hown, hts⟩ (metX0_oneRound l dC dI dA dZ h q ((ha_fold (fun k => st1 bs ops tg sr sc k i) k (xRn bs ops tg sr sc n i (mem, sm))).1) bs ops tg sr sc ga gb gr gw (nI n) gu ((ha_fold (fun k => st1 bs ops tg sr sc k i) k (xRn bs ops tg sr sc n i (mem, sm))).2) H.size k i (by omega)) (cwV 2 hts (lw_V q126 q128 qs6 q14 q129) rfl rfl rfl (by decide +kernel) ⟨Nat.le_of_ble_eq_true rfl, Nat.le_of_ble_eq_true rfl⟩) ⟨ha_M_blind, va_recv hK hP (ci := 0) (q0 := 0) rfl rfl, fun U hU hW => ⟨rfl, by rw [hU], by rw [hU]; exact hP, va_K.moved hW.alike hK, hD.weaken (fun _ _ _ _ => trivial)⟩⟩ rfl rfl hl.1 rfl (lv_room (Nat.le_of_ble_eq_true rfl)) dX0_run_80 ⟨Nat.le_of_ble_eq_true rfl, Nat.le_of_ble_eq_true rfl⟩) hS (fun q _ h => hFc q h) hFc (fun u_ t H1 locs ht hvm hw hB hz1 hk1 hS => ?_)
            obtain ⟨hP1, hK1, hD1⟩ := hB
            rw [ht] at hP1
            have hK := va_K.moved hvm.symm hK1
            obtain ⟨hP, hD⟩ := va_join (wr := []) hP hD [0, 1, 2, 3, 4, 5, 6, 7, 8, 9, 10] [] rfl rfl (by decide) (by decide) hk1 hFc hP1 hD1
            generalize H1 = H at hP hS ⊢
            have hP : va_P (dC, dI) vwCl (xw dA dZ h q ((st1 bs ops tg sr sc k i (((ha_fold (fun k => st1 bs ops tg sr sc k i) k (xRn bs ops tg sr sc n i (mem, sm))).1), ((ha_fold (fun k => st1 bs ops tg sr sc k i) k (xRn bs ops tg sr sc n i (mem, sm))).2))).1) bs ops tg sr sc ga gb gr gw (nI n) gu ((st1 bs ops tg sr sc k i (((ha_fold (fun k => st1 bs ops tg sr sc k i) k (xRn bs ops tg sr sc n i (mem, sm))).1), ((ha_fold (fun k => st1 bs ops tg sr sc k i) k (xRn bs ops tg sr sc n i (mem, sm))).2))).2)) H := hP
            have hD : va_D A (xw dA dZ h q ((st1 bs ops tg sr sc k i (((ha_fold (fun k => st1 bs ops tg sr sc k i) k (xRn bs ops tg sr sc n i (mem, sm))).1), ((ha_fold (fun k => st1 bs ops tg sr sc k i) k (xRn bs ops tg sr sc n i (mem, sm))).2))).1) bs ops tg sr sc ga gb gr gw (nI n) gu ((st1 bs ops tg sr sc k i (((ha_fold (fun k => st1 bs ops tg sr sc k i) k (xRn bs ops tg sr sc n i (mem, sm))).1), ((ha_fold (fun k => st1 bs ops tg sr sc k i) k (xRn bs ops tg sr sc n i (mem, sm))).2))).2)) := hD
            have hK : va_K (dC, dI) vwCl (xT dA dZ) s := hK
            refine lv_iinc (v := nI (k + 1)) (lv' := [(3, .int (nI (k + 1))), (2, .int (nI i)), (0, .ref h), (1, .int (nI T))]) hx hb dX0_run_83 hl (k := 0) rfl (nI_1 k) (by decide) rfl (fun ls hl => ?_)
            refine lv_goto (tgt := 69) hx hb dX0_run_86 (by decide) ?_
            exact ih4 (k + 1, H, locs, ls) ⟨by omega, hP, hD, hS, lv_sub hl [0, 1, 2, 3] rfl⟩ (by dsimp only; omega)
      · refine lv_iload_n hx hb dX0_run_14 rfl (lv_at hl 2 rfl) ?_
        refine lv_iconst (v := 4) hx hb dX0_run_15 (by decide) ?_
        refine lv_icmp_lt (tgt := 62) hx hb dX0_run_16 (by decide) (fun c_5 => ?_) (fun c_5 => ?_)
        · exact K (0, la, lb, ur, uw, us, s.heap, [], ls) ⟨Nat.zero_le _, hP, hD, hS, lv_sub hl [0, 1, 2] rfl⟩
        · have hT4 : 4 ≤ T := by rcases Nat.lt_or_ge T 4 with z | z; exact absurd (nI_lt z (by decide)) c_5; exact z
          have hT1 : 1 ≤ T := by omega
          refine lv_aload_n hx hb dX0_run_19 rfl (lv_at hl 1 rfl) ?_
          refine lv_iload_n hx hb dX0_run_20 rfl (lv_at hl 2 rfl) ?_
          have hFc := va_free (wc := xw dA dZ h q mem bs ops tg sr sc la lb ur uw (nI n) us sm) hD hS hA [0, 1, 2, 3, 4, 5, 6, 7, 8, 9, 10] rfl
          refine va_calli (va_runV (As := [.int (nI T)]) (rest := []) ⟨hx, hb, hml, hown, hts⟩ (metX0_isSafe l dC dI dA dZ h q mem bs ops tg sr sc la lb ur uw us sm s.heap.size n T hn hT1 hT2) (cwV 1 hts (lw_V q96 q98 qs0 q14 q99) rfl rfl rfl (by decide +kernel) ⟨Nat.le_of_ble_eq_true rfl, Nat.le_of_ble_eq_true rfl⟩) ⟨ha_M_blind, va_recv hK hP (ci := 0) (q0 := 0) rfl rfl, fun U hU hW => ⟨rfl, by rw [hU], by rw [hU]; exact hP, va_K.moved hW.alike hK, hD.weaken (fun _ _ _ _ => trivial)⟩⟩ rfl rfl hl.1 rfl (lv_room (Nat.le_of_ble_eq_true rfl)) dX0_run_21 ⟨Nat.le_of_ble_eq_true rfl, Nat.le_of_ble_eq_true rfl⟩) hS (fun q _ h => hFc q h) hFc (fun r_ u_ t H1 locs ht hvm hw hB hz1 hk1 hS => ?_)
          obtain ⟨fr, fw, fu⟩ := u_
          have hb_6 : ¬ r_ = 0 → SF bs ops tg sr sc n T := hw
          clear hw
          generalize r_ = b_6 at hb_6 ⊢
          obtain ⟨hP1, hK1, hD1⟩ := hB
          rw [ht] at hP1
          have hK := va_K.moved hvm.symm hK1
          obtain ⟨hP, hD⟩ := va_join (wr := []) hP hD [0, 1, 2, 3, 4, 5, 6, 7, 8, 9, 10] [] rfl rfl (by decide) (by decide) hk1 hFc hP1 hD1
          generalize H1 = H at hP hS ⊢
          have hP : va_P (dC, dI) vwCl (xw dA dZ h q mem bs ops tg sr sc la lb fr fw (nI n) fu sm) H := hP
          have hD : va_D A (xw dA dZ h q mem bs ops tg sr sc la lb fr fw (nI n) fu sm) := hD
          have hK : va_K (dC, dI) vwCl (xT dA dZ) s := hK
          refine lv_if_eq (tgt := 62) hx hb dX0_run_24 (by decide) (fun c_7 => ?_) (fun c_7 => ?_)
          · exact K (0, la, lb, fr, fw, fu, H, locs, ls) ⟨Nat.zero_le _, hP, hD, hS, lv_sub hl [0, 1, 2] rfl⟩
          · have hSF := hb_6 c_7
            refine ha_loop (σ := Nat × ha_F × ha_F × Heap × List Loc × Array Slot) (fun x => T - x.1) (fun x => (x.1 ≤ T) ∧ (va_P (dC, dI) vwCl (xw dA dZ h q ((xRn bs ops tg sr sc n (x.1) (mem, sm)).1) bs ops tg sr sc x.2.1 x.2.2.1 fr fw (nI n) fu ((xRn bs ops tg sr sc n (x.1) (mem, sm)).2)) x.2.2.2.1) ∧ (va_D A (xw dA dZ h q ((xRn bs ops tg sr sc n (x.1) (mem, sm)).1) bs ops tg sr sc x.2.1 x.2.2.1 fr fw (nI n) fu ((xRn bs ops tg sr sc n (x.1) (mem, sm)).2))) ∧ (va_S A s.heap x.2.2.2.1 x.2.2.2.2.1) ∧ (lv_has x.2.2.2.2.2 4 [(2, .int (nI (x.1))), (0, .ref h), (1, .int (nI T))])) (fun x => x.2.2.2.1) (fun x => x.2.2.2.2.1) (fun x => F0 m 27 x.2.2.2.2.2 []) ?_ (0, la, lb, H, locs, ls) ⟨Nat.zero_le _, hP, hD, hS, lv_sub hl [0, 1, 2] rfl⟩
            rintro ⟨i, fa, fb, H, locs, ls⟩ ⟨hi, hP, hD, hS, hl⟩ ih
            have hi : i ≤ T := hi
            have hP : va_P (dC, dI) vwCl (xw dA dZ h q ((xRn bs ops tg sr sc n i (mem, sm)).1) bs ops tg sr sc fa fb fr fw (nI n) fu ((xRn bs ops tg sr sc n i (mem, sm)).2)) H := hP
            have hD : va_D A (xw dA dZ h q ((xRn bs ops tg sr sc n i (mem, sm)).1) bs ops tg sr sc fa fb fr fw (nI n) fu ((xRn bs ops tg sr sc n i (mem, sm)).2)) := hD
            have hS : va_S A s.heap H locs := hS
            have hl : lv_has ls 4 [(2, .int (nI i)), (0, .ref h), (1, .int (nI T))] := hl
            show W p l e _ s m _ below meth c H locs _ _ _ (F0 m 27 ls [])
            refine lv_iload_n hx hb dX0_run_27 rfl (lv_at hl 0 rfl) ?_
            refine lv_iconst (v := 4) hx hb dX0_run_28 (by decide) ?_
            refine lv_iadd hx hb dX0_run_29 ?_
            rw [show nI i + 4 = nI (i + 4) from nI_add i 4]
            refine lv_iload_n hx hb dX0_run_30 rfl (lv_at hl 2 rfl) ?_
            refine lv_icmp_gt (tgt := 62) hx hb dX0_run_31 (by decide) (fun c_8 => ?_) (fun c_8 => ?_)
            · exact K (i, fa, fb, fr, fw, fu, H, locs, ls) ⟨hi, hP, hD, hS, lv_sub hl [0, 1, 2] rfl⟩
            · have hi4 : i + 4 ≤ T := by rcases Nat.lt_or_ge T (i + 4) with z | z; exact absurd (nI_lt z (by omega)) c_8; exact z
              refine lv_iconst (v := 0) hx hb dX0_run_34 (by decide) ?_
              refine lv_istore_n (lv' := [(3, .int 0), (2, .int (nI i)), (0, .ref h), (1, .int (nI T))]) hx hb dX0_run_35 rfl hl (by decide) rfl (fun ls hl => ?_)
              refine ha_loop (σ := Nat × ha_F × ha_F × Heap × List Loc × Array Slot) (fun x => n - x.1) (fun x => (x.1 ≤ n) ∧ (va_P (dC, dI) vwCl (xw dA dZ h q ((ha_fold (fun k => st4 bs ops tg sr sc k i) (x.1) (xRn bs ops tg sr sc n i (mem, sm))).1) bs ops tg sr sc x.2.1 x.2.2.1 fr fw (nI n) fu ((ha_fold (fun k => st4 bs ops tg sr sc k i) (x.1) (xRn bs ops tg sr sc n i (mem, sm))).2)) x.2.2.2.1) ∧ (va_D A (xw dA dZ h q ((ha_fold (fun k => st4 bs ops tg sr sc k i) (x.1) (xRn bs ops tg sr sc n i (mem, sm))).1) bs ops tg sr sc x.2.1 x.2.2.1 fr fw (nI n) fu ((ha_fold (fun k => st4 bs ops tg sr sc k i) (x.1) (xRn bs ops tg sr sc n i (mem, sm))).2))) ∧ (va_S A s.heap x.2.2.2.1 x.2.2.2.2.1) ∧ (lv_has x.2.2.2.2.2 4 [(3, .int (nI (x.1))), (2, .int (nI i)), (0, .ref h), (1, .int (nI T))])) (fun x => x.2.2.2.1) (fun x => x.2.2.2.2.1) (fun x => F0 m 36 x.2.2.2.2.2 []) ?_ (0, fa, fb, H, locs, ls) ⟨Nat.zero_le _, hP, hD, hS, lv_sub hl [0, 1, 2, 3] rfl⟩
              rintro ⟨k, fa, fb, H, locs, ls⟩ ⟨hk, hP, hD, hS, hl⟩ ih2
              have hk : k ≤ n := hk
              have hP : va_P (dC, dI) vwCl (xw dA dZ h q ((ha_fold (fun k => st4 bs ops tg sr sc k i) k (xRn bs ops tg sr sc n i (mem, sm))).1) bs ops tg sr sc fa fb fr fw (nI n) fu ((ha_fold (fun k => st4 bs ops tg sr sc k i) k (xRn bs ops tg sr sc n i (mem, sm))).2)) H := hP
              have hD : va_D A (xw dA dZ h q ((ha_fold (fun k => st4 bs ops tg sr sc k i) k (xRn bs ops tg sr sc n i (mem, sm))).1) bs ops tg sr sc fa fb fr fw (nI n) fu ((ha_fold (fun k => st4 bs ops tg sr sc k i) k (xRn bs ops tg sr sc n i (mem, sm))).2)) := hD
              have hS : va_S A s.heap H locs := hS
              have hl : lv_has ls 4 [(3, .int (nI k)), (2, .int (nI i)), (0, .ref h), (1, .int (nI T))] := hl
              show W p l e _ s m _ below meth c H locs _ _ _ (F0 m 36 ls [])
              refine lv_iload_n hx hb dX0_run_36 rfl (lv_at hl 0 rfl) ?_
              refine lv_aload_n hx hb dX0_run_37 rfl (lv_at hl 2 rfl) ?_
              refine va_get (D := (dC, dI)) (ci := 0) (v := .int (nI n)) (C := RX0) (T := TX0) (N := 13) hx hb hts in_X0 hown hK hP 0 rfl rfl 10 (by decide) (hts _ q34) (fun _ h9 => h9) rfl dX0_run_38 ?_
              refine lv_icmp_ge (tgt := 56) hx hb dX0_run_41 (by decide) (fun c_9 => ?_) (fun c_9 => ?_)
              · have hkn : k = n := by have z := (nI_leI (a := n) (b := k) (by omega) (by omega)).mp c_9; omega
                rw [hkn] at hP hD
                refine lv_iinc (v := nI (i + 4)) (lv' := [(2, .int (nI (i + 4))), (3, .int (nI k)), (0, .ref h), (1, .int (nI T))]) hx hb dX0_run_56 hl (k := 1) rfl (nI_add i 4) (by decide) rfl (fun ls hl => ?_)
                refine lv_goto (tgt := 27) hx hb dX0_run_59 (by decide) ?_
                exact ih (i + 4, fa, fb, H, locs, ls) ⟨by omega, by dsimp only; rw [← xRn_4 hSF (by omega)]; exact hP, by dsimp only; rw [← xRn_4 hSF (by omega)]; exact hD, hS, lv_sub hl [0, 2, 3] rfl⟩ (by dsimp only; omega)
              · have hlt : k < n := by rcases Nat.lt_or_ge k n with z | z; exact z; exact absurd (nI_le z (by omega)) c_9
                refine lv_aload_n hx hb dX0_run_44 rfl (lv_at hl 2 rfl) ?_
                refine lv_iload_n hx hb dX0_run_45 rfl (lv_at hl 0 rfl) ?_
                refine lv_iload_n hx hb dX0_run_46 rfl (lv_at hl 1 rfl) ?_
                have hFc := va_free (wc := xw dA dZ h q ((ha_fold (fun k => st4 bs ops tg sr sc k i) k (xRn bs ops tg sr sc n i (mem, sm))).1) bs ops tg sr sc fa fb fr fw (nI n) fu ((ha_fold (fun k => st4 bs ops tg sr sc k i) k (xRn bs ops tg sr sc n i (mem, sm))).2)) hD hS hA [0, 1, 2, 3, 4, 5, 6, 7, 8, 9, 10] rfl
                refine va_callv (va_runV (As := [.int (nI k), .int (nI i)]) (rest := []) ⟨hx, hb, hml, hown, hts⟩ (metX0_fourRounds l dC dI dA dZ h q ((ha_fold (fun k => st4 bs ops tg sr sc k i) k (xRn bs ops tg sr sc n i (mem, sm))).1) bs ops tg sr sc fa fb fr fw (nI n) fu ((ha_fold (fun k => st4 bs ops tg sr sc k i) k (xRn bs ops tg sr sc n i (mem, sm))).2) H.size k i (by omega)) (cwV 2 hts (lw_V q119 q121 qs5 q14 q122) rfl rfl rfl (by decide +kernel) ⟨Nat.le_of_ble_eq_true rfl, Nat.le_of_ble_eq_true rfl⟩) ⟨ha_M_blind, va_recv hK hP (ci := 0) (q0 := 0) rfl rfl, fun U hU hW => ⟨rfl, by rw [hU], by rw [hU]; exact hP, va_K.moved hW.alike hK, hD.weaken (fun _ _ _ _ => trivial)⟩⟩ rfl rfl hl.1 rfl (lv_room (Nat.le_of_ble_eq_true rfl)) dX0_run_47 ⟨Nat.le_of_ble_eq_true rfl, Nat.le_of_ble_eq_true rfl⟩) hS (fun q _ h => hFc q h) hFc (fun u_ t H1 locs ht hvm hw hB hz1 hk1 hS => ?_)
                obtain ⟨fa, fb⟩ := u_
                obtain ⟨hP1, hK1, hD1⟩ := hB
                rw [ht] at hP1
                have hK := va_K.moved hvm.symm hK1
                obtain ⟨hP, hD⟩ := va_join (wr := []) hP hD [0, 1, 2, 3, 4, 5, 6, 7, 8, 9, 10] [] rfl rfl (by decide) (by decide) hk1 hFc hP1 hD1
                generalize H1 = H at hP hS ⊢
                have hP : va_P (dC, dI) vwCl (xw dA dZ h q ((st4 bs ops tg sr sc k i (((ha_fold (fun k => st4 bs ops tg sr sc k i) k (xRn bs ops tg sr sc n i (mem, sm))).1), ((ha_fold (fun k => st4 bs ops tg sr sc k i) k (xRn bs ops tg sr sc n i (mem, sm))).2))).1) bs ops tg sr sc fa fb fr fw (nI n) fu ((st4 bs ops tg sr sc k i (((ha_fold (fun k => st4 bs ops tg sr sc k i) k (xRn bs ops tg sr sc n i (mem, sm))).1), ((ha_fold (fun k => st4 bs ops tg sr sc k i) k (xRn bs ops tg sr sc n i (mem, sm))).2))).2)) H := hP
                have hD : va_D A (xw dA dZ h q ((st4 bs ops tg sr sc k i (((ha_fold (fun k => st4 bs ops tg sr sc k i) k (xRn bs ops tg sr sc n i (mem, sm))).1), ((ha_fold (fun k => st4 bs ops tg sr sc k i) k (xRn bs ops tg sr sc n i (mem, sm))).2))).1) bs ops tg sr sc fa fb fr fw (nI n) fu ((st4 bs ops tg sr sc k i (((ha_fold (fun k => st4 bs ops tg sr sc k i) k (xRn bs ops tg sr sc n i (mem, sm))).1), ((ha_fold (fun k => st4 bs ops tg sr sc k i) k (xRn bs ops tg sr sc n i (mem, sm))).2))).2)) := hD
                have hK : va_K (dC, dI) vwCl (xT dA dZ) s := hK
                refine lv_iinc (v := nI (k + 1)) (lv' := [(3, .int (nI (k + 1))), (2, .int (nI i)), (0, .ref h), (1, .int (nI T))]) hx hb dX0_run_50 hl (k := 0) rfl (nI_1 k) (by decide) rfl (fun ls hl => ?_)
                refine lv_goto (tgt := 36) hx hb dX0_run_53 (by decide) ?_
                exact ih2 (k + 1, fa, fb, H, locs, ls) ⟨by omega, hP, hD, hS, lv_sub hl [0, 1, 2, 3] rfl⟩ (by dsimp only; omega)
    · refine lv_iconst (v := (-1)) hx hb dX0_run_10 (by decide) ?_
      exact W.iret (v := (-1)) hx hb hr (fun t ht hW => ⟨⟨(-1), ((mem, bs, ops, tg, sr, sc, (nI n), sm), (la, lb, ur, uw, us)), rfl, (aRu_1 (u := (mem, bs, ops, tg, sr, sc, nI n, sm)) (Or.inr (fa_of_nle c_2))).symm, by rw [ht]; exact hP, va_K.moved hW.alike hK, hD⟩, hS.F ht⟩) hS.2.2 dX0_run_11
end
section
set_option maxHeartbeats 4000000 in
set_option maxRecDepth 100000 in
/-- badRef: not a reference -/
theorem metX1_badRef (l : Launch) (dC : Nat → ClassId) (dI : Nat → Nat → Nat) (dA : ClassId) (h : Nat) (q : Nat → Nat) (mem bs ops tg sr sc : ha_F) (cnt sm : Int32) (p0 : Int32) : Met l yX1_badRef (ws_ yX1_badRef cX1_badRef 2 (some .boolean)) ({ frames := 0, cells := 0, slots := 0, locals := 0 }) (ha_R dC dI [.ref h, .int p0] (mw dA h q mem bs ops tg sr sc cnt sm) (mT dA)) (vp_Si (fun r => ¬ r = 0 ↔ ¬ xRef p0)) 0 0 (fun _ => False) := by
  refine Met.ofW (cc := cX1_badRef) (maxL := 2) (ret := (some .boolean)) (by decide) rfl ?_
  intro p e s m args below meth c s₁ B hml hv
  obtain ⟨rfl, hP, hK⟩ := hv
  have hx := B.exec
  have hb := B.bytes
  have hr := B.returns
  have hts := atoms_spec (ws := ws_ yX1_badRef cX1_badRef 2 (some .boolean)) B.pre
  have hts : ∀ w ∈ lw_all, w.before _ s = true := fun w h => hts w (List.mem_cons_of_mem _ h)
  have hown : s.vm.findClass RX1 = some m.cls := findClass_of_methodNamed B.named
  have hlocks := B.notSynchronized
  have hP : va_P (dC, dI) vwCl (mw dA h q mem bs ops tg sr sc cnt sm) s.heap := hP
  have hl := lv_entry ([.ref h, .int p0]) (n := 2) (Nat.le_of_ble_eq_true rfl)
  rw [lg_entry_eq]
  generalize (lg_sl ([.ref h, .int p0]) ++ List.replicate (2 - (lg_sl ([.ref h, .int p0])).length) Slot.unset).toArray = ls at hl ⊢
  have hl : lv_has ls 2 [(0, .ref h), (1, .int p0)] := hl
  refine lv_iload_n hx hb dX1_badRef_0 rfl (lv_at hl 1 rfl) ?_
  refine lv_if_lt (tgt := 23) hx hb dX1_badRef_1 (by decide) (fun c_1 => ?_) (fun c_1 => ?_)
  · refine lv_iconst (v := 1) hx hb dX1_badRef_23 (by decide) ?_
    refine lv_goto (tgt := 28) hx hb dX1_badRef_24 (by decide) ?_
    exact W.zret (v := 1) hx hb hr rfl (fun t ht hW => ⟨1, rfl, ⟨fun _ h => h.1 c_1, fun _ => by decide⟩, ht⟩) (fun _ h => absurd h List.not_mem_nil) dX1_badRef_28
  · refine lv_iload_n hx hb dX1_badRef_4 rfl (lv_at hl 1 rfl) ?_
    refine lv_sipush (v := 511) hx hb dX1_badRef_5 (by decide) ?_
    refine lv_icmp_gt (tgt := 23) hx hb dX1_badRef_8 (by decide) (fun c_2 => ?_) (fun c_2 => ?_)
    · refine lv_iconst (v := 1) hx hb dX1_badRef_23 (by decide) ?_
      refine lv_goto (tgt := 28) hx hb dX1_badRef_24 (by decide) ?_
      exact W.zret (v := 1) hx hb hr rfl (fun t ht hW => ⟨1, rfl, ⟨fun _ h => h.2.1 ((ha_511 _).mp c_2), fun _ => by decide⟩, ht⟩) (fun _ h => absurd h List.not_mem_nil) dX1_badRef_28
    · refine lv_iload_n hx hb dX1_badRef_11 rfl (lv_at hl 1 rfl) ?_
      refine lv_bipush (v := 16) hx hb dX1_badRef_12 (by decide) ?_
      refine lv_idiv hx hb dX1_badRef_14 (by decide) ?_
      refine lv_bipush (v := 8) hx hb dX1_badRef_15 (by decide) ?_
      refine lv_irem hx hb dX1_badRef_17 (by decide) ?_
      refine lv_bipush (v := 7) hx hb dX1_badRef_18 (by decide) ?_
      refine lv_icmp_ne (tgt := 27) hx hb dX1_badRef_20 (by decide) (fun c_3 => ?_) (fun c_3 => ?_)
      · refine lv_iconst (v := 0) hx hb dX1_badRef_27 (by decide) ?_
        exact W.zret (v := 0) hx hb hr rfl (fun t ht hW => ⟨0, rfl, ⟨fun z => absurd rfl z, fun z => absurd (show xRef p0 from ⟨c_1, fun y => c_2 ((ha_511 _).mpr y), fun y => c_3 (by rw [ha_div7 c_1 (fun y => c_2 ((ha_511 _).mpr y))]; exact y)⟩) z⟩, ht⟩) (fun _ h => absurd h List.not_mem_nil) dX1_badRef_28
      · refine lv_iconst (v := 1) hx hb dX1_badRef_23 (by decide) ?_
        refine lv_goto (tgt := 28) hx hb dX1_badRef_24 (by decide) ?_
        exact W.zret (v := 1) hx hb hr rfl (fun t ht hW => ⟨1, rfl, ⟨fun _ h => h.2.2 (by rw [← ha_div7 h.1 h.2.1]; exact c_3), fun _ => by decide⟩, ht⟩) (fun _ h => absurd h List.not_mem_nil) dX1_badRef_28
set_option maxHeartbeats 4000000 in
set_option maxRecDepth 100000 in
/-- place: the cell -/
theorem metX1_place (l : Launch) (dC : Nat → ClassId) (dI : Nat → Nat → Nat) (dA : ClassId) (h : Nat) (q : Nat → Nat) (mem bs ops tg sr sc : ha_F) (cnt sm : Int32) (p0 p1 : Int32) (hr0 : xRef p0) : Met l yX1_place (ws_ yX1_place cX1_place 6 (some .int)) ({ frames := 0, cells := 0, slots := 0, locals := 0 }) (ha_R dC dI [.ref h, .int p0, .int p1] (mw dA h q mem bs ops tg sr sc cnt sm) (mT dA)) (vp_Si (fun r => r = xCell bs p0 p1)) 0 0 (fun _ => False) := by
  refine Met.ofW (cc := cX1_place) (maxL := 6) (ret := (some .int)) (by decide) rfl ?_
  intro p e s m args below meth c s₁ B hml hv
  obtain ⟨rfl, hP, hK⟩ := hv
  have hx := B.exec
  have hb := B.bytes
  have hr := B.returns
  have hts := atoms_spec (ws := ws_ yX1_place cX1_place 6 (some .int)) B.pre
  have hts : ∀ w ∈ lw_all, w.before _ s = true := fun w h => hts w (List.mem_cons_of_mem _ h)
  have hown : s.vm.findClass RX1 = some m.cls := findClass_of_methodNamed B.named
  have hlocks := B.notSynchronized
  have hP : va_P (dC, dI) vwCl (mw dA h q mem bs ops tg sr sc cnt sm) s.heap := hP
  have hl := lv_entry ([.ref h, .int p0, .int p1]) (n := 6) (Nat.le_of_ble_eq_true rfl)
  rw [lg_entry_eq]
  generalize (lg_sl ([.ref h, .int p0, .int p1]) ++ List.replicate (6 - (lg_sl ([.ref h, .int p0, .int p1])).length) Slot.unset).toArray = ls at hl ⊢
  have hl : lv_has ls 6 [(0, .ref h), (1, .int p0), (2, .int p1)] := hl
  refine lv_iload_n hx hb dX1_place_0 rfl (lv_at hl 1 rfl) ?_
  refine lv_sipush (v := 128) hx hb dX1_place_1 (by decide) ?_
  refine lv_idiv hx hb dX1_place_4 (by decide) ?_
  refine lv_iconst (v := 3) hx hb dX1_place_5 (by decide) ?_
  refine lv_iand hx hb dX1_place_6 ?_
  refine lv_istore_n (lv' := [(3, .int ((p0 / 128) &&& 3)), (0, .ref h), (1, .int p0), (2, .int p1)]) hx hb dX1_place_7 rfl hl (by decide) rfl (fun ls hl => ?_)
  refine lv_iload_n hx hb dX1_place_8 rfl (lv_at hl 2 rfl) ?_
  refine lv_bipush (v := 16) hx hb dX1_place_9 (by decide) ?_
  refine lv_idiv hx hb dX1_place_11 (by decide) ?_
  refine lv_bipush (v := 8) hx hb dX1_place_12 (by decide) ?_
  refine lv_irem hx hb dX1_place_14 (by decide) ?_
  refine lv_iconst (v := 3) hx hb dX1_place_15 (by decide) ?_
  refine lv_isub hx hb dX1_place_16 ?_
  refine lv_istore (lv' := [(4, .int (((p0 / 16) - (p0 / 16) / 8 * 8) - 3)), (3, .int ((p0 / 128) &&& 3)), (0, .ref h), (1, .int p0), (2, .int p1)]) hx hb dX1_place_17 hl (by decide) rfl (fun ls hl => ?_)
  refine lv_iload_n hx hb dX1_place_19 rfl (lv_at hl 3 rfl) ?_
  refine lv_bipush (v := 16) hx hb dX1_place_20 (by decide) ?_
  refine lv_irem hx hb dX1_place_22 (by decide) ?_
  refine lv_istore (lv' := [(5, .int (p0 - p0 / 16 * 16)), (4, .int (((p0 / 16) - (p0 / 16) / 8 * 8) - 3)), (3, .int ((p0 / 128) &&& 3)), (0, .ref h), (1, .int p0), (2, .int p1)]) hx hb dX1_place_23 hl (by decide) rfl (fun ls hl => ?_)
  refine lv_aload_n hx hb dX1_place_25 rfl (lv_at hl 3 rfl) ?_
  refine va_get (D := (dC, dI)) (ci := 1) (v := .ref (q 1)) (C := RX1) (T := TX1) (N := 8) hx hb hts in_X1 hown hK hP 0 rfl rfl 1 (by decide) (hts _ q188) (fun _ h9 => h9) rfl dX1_place_26 ?_
  refine lv_iload_n hx hb dX1_place_29 rfl (lv_at hl 2 rfl) ?_
  refine va_iald hx hb hK hP 2 0 rfl rfl (pk_andIn _ 2 (by decide) (by decide)) dX1_place_30 ?_
  refine lv_iload hx hb dX1_place_31 (lv_at hl 0 rfl) ?_
  refine lv_iadd hx hb dX1_place_33 ?_
  refine lv_iload hx hb dX1_place_34 (lv_at hl 1 rfl) ?_
  refine lv_iload_n hx hb dX1_place_36 rfl (lv_at hl 5 rfl) ?_
  refine lv_imul hx hb dX1_place_37 ?_
  refine lv_iadd hx hb dX1_place_38 ?_
  refine lv_bipush (v := 63) hx hb dX1_place_39 (by decide) ?_
  refine lv_iand hx hb dX1_place_41 ?_
  exact W.iret (v := ((((bs ((p0 / 128) &&& 3).toNatClampNeg) + (p0 - p0 / 16 * 16)) + ((((p0 / 16) - (p0 / 16) / 8 * 8) - 3) * p1)) &&& 63)) hx hb hr (fun t ht hW => ⟨((((bs ((p0 / 128) &&& 3).toNatClampNeg) + (p0 - p0 / 16 * 16)) + ((((p0 / 16) - (p0 / 16) / 8 * 8) - 3) * p1)) &&& 63), rfl, ha_place hr0, ht⟩) (fun _ h => absurd h List.not_mem_nil) dX1_place_42
set_option maxHeartbeats 4000000 in
set_option maxRecDepth 100000 in
/-- statement: the abstract one -/
theorem metX1_statement (l : Launch) (dC : Nat → ClassId) (dI : Nat → Nat → Nat) (dA : ClassId) (h : Nat) (q : Nat → Nat) (u : ha_U) (sz : Nat) (p0 : Int32) (p1 : Int32) (p2 : Int32) (p3 : Int32) (hI : aInv u) : Met l yX1_statement (ws_ yX1_statement cX1_statement 6 (some .int)) ({ frames := 1, cells := 0, slots := 0, locals := 21 }) (ha_M dC dI [.ref h, .int p0, .int p1, .int p2, .int p3] sz (mwU dA h q u) (mT dA)) (va_Qi (S := ha_U) (fun (r : Int32) (y : ha_U) => (r, y) = aStatement u p0 p1 p2 p3) (fun y t => ha_B dC dI (va_A (mwU dA h q u) sz) (mwU dA h q y) (mT dA) t) (va_A (mwU dA h q u) sz)) 0 0 (va_A (mwU dA h q u) sz) := by
  obtain ⟨mem, bs, ops, tg, sr, sc, cnt, sm⟩ := u
  obtain ⟨n, hn, hcnt, hst, hbs⟩ := hI
  have hcnt : cnt = nI n := hcnt
  subst hcnt
  have hst : ∀ k, k < n → ¬ ops k < 0 ∧ ¬ 7 < ops k ∧ xRef (tg k) ∧ xRef (sr k) ∧ (xTwo (ops k) → xRef (sc k)) := hst
  have hbs : ∀ r, r < 4 → ¬ bs r < 0 ∧ bs r < 64 := hbs
  refine Met.ofW (cc := cX1_statement) (maxL := 6) (ret := (some .int)) (by decide) rfl ?_
  intro p e s m args below meth c s₁ B hml hv
  obtain ⟨rfl, hsz, hP, hK, hD0⟩ := hv
  have hx := B.exec
  have hb := B.bytes
  have hr := B.returns
  have hts := atoms_spec (ws := ws_ yX1_statement cX1_statement 6 (some .int)) B.pre
  have hts : ∀ w ∈ lw_all, w.before _ s = true := fun w h => hts w (List.mem_cons_of_mem _ h)
  have hown : s.vm.findClass RX1 = some m.cls := findClass_of_methodNamed B.named
  have hlocks := B.notSynchronized
  subst hsz
  have hD := hD0.self (sz := s.heap.size)
  generalize hAe : va_A (mwU dA h q (mem, bs, ops, tg, sr, sc, nI n, sm)) s.heap.size = A at hD ⊢
  have hA : ∀ q : Nat, s.heap.size ≤ q → A q := fun q h => by rw [← hAe]; exact Or.inr h
  have hS : va_S A s.heap s.heap [] := va_S.rf
  have hD : va_D A (mw dA h q mem bs ops tg sr sc (nI n) sm) := hD
  have hP : va_P (dC, dI) vwCl (mw dA h q mem bs ops tg sr sc (nI n) sm) s.heap := hP
  have hl := lv_entry ([.ref h, .int p0, .int p1, .int p2, .int p3]) (n := 6) (Nat.le_of_ble_eq_true rfl)
  rw [lg_entry_eq]
  generalize (lg_sl ([.ref h, .int p0, .int p1, .int p2, .int p3]) ++ List.replicate (6 - (lg_sl ([.ref h, .int p0, .int p1, .int p2, .int p3])).length) Slot.unset).toArray = ls at hl ⊢
  have hl : lv_has ls 6 [(0, .ref h), (1, .int p0), (2, .int p1), (3, .int p2), (4, .int p3)] := hl
  refine lv_iload_n hx hb dX1_statement_0 rfl (lv_at hl 1 rfl) ?_
  refine lv_if_lt (tgt := 10) hx hb dX1_statement_1 (by decide) (fun c_1 => ?_) (fun c_1 => ?_)
  · refine lv_iconst (v := (-1)) hx hb dX1_statement_10 (by decide) ?_
    exact W.iret (v := (-1)) hx hb hr (fun t ht hW => ⟨⟨(-1), (mem, bs, ops, tg, sr, sc, (nI n), sm), rfl, (aSt_1 (u := (mem, bs, ops, tg, sr, sc, nI n, sm)) (Or.inl c_1)).symm, by rw [ht]; exact hP, va_K.moved hW.alike hK, hD⟩, hS.F ht⟩) hS.2.2 dX1_statement_11
  · refine lv_iload_n hx hb dX1_statement_4 rfl (lv_at hl 1 rfl) ?_
    refine lv_bipush (v := 7) hx hb dX1_statement_5 (by decide) ?_
    refine lv_icmp_le (tgt := 12) hx hb dX1_statement_7 (by decide) (fun c_2 => ?_) (fun c_2 => ?_)
    · have h1 : ¬ (p0 < 0 ∨ 7 < p0) := fun z => z.elim c_1 (fa_of_le_not c_2)
      refine lv_aload_n hx hb dX1_statement_12 rfl (lv_at hl 0 rfl) ?_
      refine lv_iload_n hx hb dX1_statement_13 rfl (lv_at hl 2 rfl) ?_
      refine vp_callSi (W.runV (As := [.int p1]) (rest := []) ⟨hx, hb, hml, hown, hts⟩ (metX1_badRef l dC dI dA h q mem bs ops tg sr sc (nI n) sm p1) (cwV 1 hts (lw_V q216 q218 qs9 q15 q219) rfl rfl rfl (by decide +kernel) ⟨Nat.le_of_ble_eq_true rfl, Nat.le_of_ble_eq_true rfl⟩) ⟨ha_R_blind, va_recv hK hP (ci := 1) (q0 := 0) rfl rfl, fun U hU hW => ⟨rfl, by rw [hU]; exact hP, va_K.moved hW.alike hK⟩⟩ rfl rfl hl.1 rfl (lv_room (Nat.le_of_ble_eq_true rfl)) dX1_statement_14 ⟨Nat.le_of_ble_eq_true rfl, Nat.le_of_ble_eq_true rfl⟩) (fun r_ hw => ?_)
      have hb_3 : ¬ r_ = 0 ↔ ¬ xRef p1 := hw
      clear hw
      generalize r_ = b_3 at hb_3 ⊢
      refine lv_if_eq (tgt := 23) hx hb dX1_statement_17 (by decide) (fun c_4 => ?_) (fun c_4 => ?_)
      · have h2 := Decidable.byContradiction fun z => hb_3.mpr z c_4
        refine lv_aload_n hx hb dX1_statement_23 rfl (lv_at hl 0 rfl) ?_
        refine lv_iload_n hx hb dX1_statement_24 rfl (lv_at hl 3 rfl) ?_
        refine vp_callSi (W.runV (As := [.int p2]) (rest := []) ⟨hx, hb, hml, hown, hts⟩ (metX1_badRef l dC dI dA h q mem bs ops tg sr sc (nI n) sm p2) (cwV 1 hts (lw_V q216 q218 qs9 q15 q219) rfl rfl rfl (by decide +kernel) ⟨Nat.le_of_ble_eq_true rfl, Nat.le_of_ble_eq_true rfl⟩) ⟨ha_R_blind, va_recv hK hP (ci := 1) (q0 := 0) rfl rfl, fun U hU hW => ⟨rfl, by rw [hU]; exact hP, va_K.moved hW.alike hK⟩⟩ rfl rfl hl.1 rfl (lv_room (Nat.le_of_ble_eq_true rfl)) dX1_statement_25 ⟨Nat.le_of_ble_eq_true rfl, Nat.le_of_ble_eq_true rfl⟩) (fun r_ hw => ?_)
        have hb_5 : ¬ r_ = 0 ↔ ¬ xRef p2 := hw
        clear hw
        generalize r_ = b_5 at hb_5 ⊢
        refine lv_if_eq (tgt := 34) hx hb dX1_statement_28 (by decide) (fun c_6 => ?_) (fun c_6 => ?_)
        · have h3 := Decidable.byContradiction fun z => hb_5.mpr z c_6
          refine ha_join (α := Unit) (P := fun _ => ¬ (xTwo p0 ∧ ¬ xRef p3)) (g := fun _ => F0 m 56 ls []) (fun _ hj => ?_) (fun K => ?_)
          · refine lv_aload_n hx hb dX1_statement_56 rfl (lv_at hl 0 rfl) ?_
            refine va_get (D := (dC, dI)) (ci := 1) (v := .int (nI n)) (C := RX1) (T := TX1) (N := 8) hx hb hts in_X1 hown hK hP 0 rfl rfl 3 (by decide) (hts _ q190) (fun _ h9 => h9) rfl dX1_statement_57 ?_
            refine lv_istore (lv' := [(5, .int (nI n)), (0, .ref h), (1, .int p0), (2, .int p1), (3, .int p2), (4, .int p3)]) hx hb dX1_statement_60 hl (by decide) rfl (fun ls hl => ?_)
            refine lv_iload hx hb dX1_statement_62 (lv_at hl 0 rfl) ?_
            refine lv_iconst (v := 5) hx hb dX1_statement_64 (by decide) ?_
            refine lv_icmp_lt (tgt := 71) hx hb dX1_statement_65 (by decide) (fun c_7 => ?_) (fun c_7 => ?_)
            · have hlt := ha_n5' hn c_7
              have h5 : ¬ nI n = 5 := fun z => absurd (z ▸ c_7) (by decide)
              refine lv_aload_n hx hb dX1_statement_71 rfl (lv_at hl 1 rfl) ?_
              refine va_get (D := (dC, dI)) (ci := 1) (v := .ref (q 2)) (C := RX1) (T := TX1) (N := 8) hx hb hts in_X1 hown hK hP 0 rfl rfl 4 (by decide) (hts _ q191) (fun _ h9 => h9) rfl dX1_statement_72 ?_
              refine lv_iload hx hb dX1_statement_75 (lv_at hl 0 rfl) ?_
              refine lv_iload_n hx hb dX1_statement_77 rfl (lv_at hl 2 rfl) ?_
              refine va_iast hx hb hK hP hD hS 3 0 rfl rfl (vp_in_nI hlt (by decide)) dX1_statement_78 (fun H locs hP hD hS => ?_)
              have hP : va_P (dC, dI) vwCl (mw dA h q mem bs (upd ops (nI n).toNatClampNeg p0) tg sr sc (nI n) sm) H := hP
              have hD : va_D A (mw dA h q mem bs (upd ops (nI n).toNatClampNeg p0) tg sr sc (nI n) sm) := hD
              refine lv_aload_n hx hb dX1_statement_79 rfl (lv_at hl 1 rfl) ?_
              refine va_get (D := (dC, dI)) (ci := 1) (v := .ref (q 3)) (C := RX1) (T := TX1) (N := 8) hx hb hts in_X1 hown hK hP 0 rfl rfl 5 (by decide) (hts _ q192) (fun _ h9 => h9) rfl dX1_statement_80 ?_
              refine lv_iload hx hb dX1_statement_83 (lv_at hl 0 rfl) ?_
              refine lv_iload_n hx hb dX1_statement_85 rfl (lv_at hl 3 rfl) ?_
              refine va_iast hx hb hK hP hD hS 4 0 rfl rfl (vp_in_nI hlt (by decide)) dX1_statement_86 (fun H locs hP hD hS => ?_)
              have hP : va_P (dC, dI) vwCl (mw dA h q mem bs (upd ops (nI n).toNatClampNeg p0) (upd tg (nI n).toNatClampNeg p1) sr sc (nI n) sm) H := hP
              have hD : va_D A (mw dA h q mem bs (upd ops (nI n).toNatClampNeg p0) (upd tg (nI n).toNatClampNeg p1) sr sc (nI n) sm) := hD
              refine lv_aload_n hx hb dX1_statement_87 rfl (lv_at hl 1 rfl) ?_
              refine va_get (D := (dC, dI)) (ci := 1) (v := .ref (q 4)) (C := RX1) (T := TX1) (N := 8) hx hb hts in_X1 hown hK hP 0 rfl rfl 6 (by decide) (hts _ q193) (fun _ h9 => h9) rfl dX1_statement_88 ?_
              refine lv_iload hx hb dX1_statement_91 (lv_at hl 0 rfl) ?_
              refine lv_iload_n hx hb dX1_statement_93 rfl (lv_at hl 4 rfl) ?_
              refine va_iast hx hb hK hP hD hS 5 0 rfl rfl (vp_in_nI hlt (by decide)) dX1_statement_94 (fun H locs hP hD hS => ?_)
              have hP : va_P (dC, dI) vwCl (mw dA h q mem bs (upd ops (nI n).toNatClampNeg p0) (upd tg (nI n).toNatClampNeg p1) (upd sr (nI n).toNatClampNeg p2) sc (nI n) sm) H := hP
              have hD : va_D A (mw dA h q mem bs (upd ops (nI n).toNatClampNeg p0) (upd tg (nI n).toNatClampNeg p1) (upd sr (nI n).toNatClampNeg p2) sc (nI n) sm) := hD
              refine lv_aload_n hx hb dX1_statement_95 rfl (lv_at hl 1 rfl) ?_
              refine va_get (D := (dC, dI)) (ci := 1) (v := .ref (q 5)) (C := RX1) (T := TX1) (N := 8) hx hb hts in_X1 hown hK hP 0 rfl rfl 7 (by decide) (hts _ q194) (fun _ h9 => h9) rfl dX1_statement_96 ?_
              refine lv_iload hx hb dX1_statement_99 (lv_at hl 0 rfl) ?_
              refine lv_iload hx hb dX1_statement_101 (lv_at hl 5 rfl) ?_
              refine va_iast hx hb hK hP hD hS 6 0 rfl rfl (vp_in_nI hlt (by decide)) dX1_statement_103 (fun H locs hP hD hS => ?_)
              have hP : va_P (dC, dI) vwCl (mw dA h q mem bs (upd ops (nI n).toNatClampNeg p0) (upd tg (nI n).toNatClampNeg p1) (upd sr (nI n).toNatClampNeg p2) (upd sc (nI n).toNatClampNeg p3) (nI n) sm) H := hP
              have hD : va_D A (mw dA h q mem bs (upd ops (nI n).toNatClampNeg p0) (upd tg (nI n).toNatClampNeg p1) (upd sr (nI n).toNatClampNeg p2) (upd sc (nI n).toNatClampNeg p3) (nI n) sm) := hD
              refine lv_aload_n hx hb dX1_statement_104 rfl (lv_at hl 1 rfl) ?_
              refine lv_iload hx hb dX1_statement_105 (lv_at hl 0 rfl) ?_
              refine lv_iconst (v := 1) hx hb dX1_statement_107 (by decide) ?_
              refine lv_iadd hx hb dX1_statement_108 ?_
              refine va_put (D := (dC, dI)) (ci := 1) (v := .int ((nI n) + 1)) (ty := .int) (C := RX1) (T := TX1) (N := 8) hx hb hts in_X1 tyX1 tyX1_ok nmX1 hown hK hP hD hS 0 rfl rfl 3 (by decide) (hts _ q190) (fun _ h9 => h9) rfl (by decide +kernel) rfl rfl (Nat.le_of_ble_eq_true rfl) dX1_statement_109 (fun H locs hP hD hS => ?_)
              have hP : va_P (dC, dI) vwCl (mw dA h q mem bs (upd ops (nI n).toNatClampNeg p0) (upd tg (nI n).toNatClampNeg p1) (upd sr (nI n).toNatClampNeg p2) (upd sc (nI n).toNatClampNeg p3) ((nI n) + 1) sm) H := hP
              have hD : va_D A (mw dA h q mem bs (upd ops (nI n).toNatClampNeg p0) (upd tg (nI n).toNatClampNeg p1) (upd sr (nI n).toNatClampNeg p2) (upd sc (nI n).toNatClampNeg p3) ((nI n) + 1) sm) := hD
              refine lv_aload_n hx hb dX1_statement_112 rfl (lv_at hl 1 rfl) ?_
              refine va_get (D := (dC, dI)) (ci := 1) (v := .int ((nI n) + 1)) (C := RX1) (T := TX1) (N := 8) hx hb hts in_X1 hown hK hP 0 rfl rfl 3 (by decide) (hts _ q190) (fun _ h9 => h9) rfl dX1_statement_113 ?_
              exact W.iret (v := ((nI n) + 1)) hx hb hr (fun t ht hW => ⟨⟨((nI n) + 1), (mem, bs, (upd ops (nI n).toNatClampNeg p0), (upd tg (nI n).toNatClampNeg p1), (upd sr (nI n).toNatClampNeg p2), (upd sc (nI n).toNatClampNeg p3), ((nI n) + 1), sm), rfl, (aSt_6 (u := (mem, bs, ops, tg, sr, sc, nI n, sm)) h1 h2 h3 hj h5).symm, by rw [ht]; exact hP, va_K.moved hW.alike hK, hD⟩, hS.F ht⟩) hS.2.2 dX1_statement_116
            · refine lv_bipush (v := (-5)) hx hb dX1_statement_68 (by decide) ?_
              exact W.iret (v := (-5)) hx hb hr (fun t ht hW => ⟨⟨(-5), (mem, bs, ops, tg, sr, sc, (nI n), sm), rfl, (aSt_5 (u := (mem, bs, ops, tg, sr, sc, nI n, sm)) h1 h2 h3 hj (ha_5 hn c_7)).symm, by rw [ht]; exact hP, va_K.moved hW.alike hK, hD⟩, hS.F ht⟩) hS.2.2 dX1_statement_70
          · refine lv_iload_n hx hb dX1_statement_34 rfl (lv_at hl 1 rfl) ?_
            refine lv_iconst (v := 1) hx hb dX1_statement_35 (by decide) ?_
            refine lv_icmp_lt (tgt := 56) hx hb dX1_statement_36 (by decide) (fun c_8 => ?_) (fun c_8 => ?_)
            · exact K () (fun z => z.1.1 c_8)
            · refine lv_iload_n hx hb dX1_statement_39 rfl (lv_at hl 1 rfl) ?_
              refine lv_iconst (v := 4) hx hb dX1_statement_40 (by decide) ?_
              refine lv_icmp_gt (tgt := 56) hx hb dX1_statement_41 (by decide) (fun c_9 => ?_) (fun c_9 => ?_)
              · exact K () (fun z => z.1.2 c_9)
              · have h4 : xTwo p0 := ⟨c_8, c_9⟩
                refine lv_aload_n hx hb dX1_statement_44 rfl (lv_at hl 0 rfl) ?_
                refine lv_iload hx hb dX1_statement_45 (lv_at hl 4 rfl) ?_
                refine vp_callSi (W.runV (As := [.int p3]) (rest := []) ⟨hx, hb, hml, hown, hts⟩ (metX1_badRef l dC dI dA h q mem bs ops tg sr sc (nI n) sm p3) (cwV 1 hts (lw_V q216 q218 qs9 q15 q219) rfl rfl rfl (by decide +kernel) ⟨Nat.le_of_ble_eq_true rfl, Nat.le_of_ble_eq_true rfl⟩) ⟨ha_R_blind, va_recv hK hP (ci := 1) (q0 := 0) rfl rfl, fun U hU hW => ⟨rfl, by rw [hU]; exact hP, va_K.moved hW.alike hK⟩⟩ rfl rfl hl.1 rfl (lv_room (Nat.le_of_ble_eq_true rfl)) dX1_statement_47 ⟨Nat.le_of_ble_eq_true rfl, Nat.le_of_ble_eq_true rfl⟩) (fun r_ hw => ?_)
                have hb_10 : ¬ r_ = 0 ↔ ¬ xRef p3 := hw
                clear hw
                generalize r_ = b_10 at hb_10 ⊢
                refine lv_if_eq (tgt := 56) hx hb dX1_statement_50 (by decide) (fun c_11 => ?_) (fun c_11 => ?_)
                · have h6 := Decidable.byContradiction fun z => hb_10.mpr z c_11
                  exact K () (fun z => z.2 h6)
                · have h6 := hb_10.mp c_11
                  refine lv_bipush (v := (-4)) hx hb dX1_statement_53 (by decide) ?_
                  exact W.iret (v := (-4)) hx hb hr (fun t ht hW => ⟨⟨(-4), (mem, bs, ops, tg, sr, sc, (nI n), sm), rfl, (aSt_4 (u := (mem, bs, ops, tg, sr, sc, nI n, sm)) h1 h2 h3 ⟨h4, h6⟩).symm, by rw [ht]; exact hP, va_K.moved hW.alike hK, hD⟩, hS.F ht⟩) hS.2.2 dX1_statement_55
        · have h3 := hb_5.mp c_6
          refine lv_bipush (v := (-3)) hx hb dX1_statement_31 (by decide) ?_
          exact W.iret (v := (-3)) hx hb hr (fun t ht hW => ⟨⟨(-3), (mem, bs, ops, tg, sr, sc, (nI n), sm), rfl, (aSt_3 (u := (mem, bs, ops, tg, sr, sc, nI n, sm)) h1 h2 h3).symm, by rw [ht]; exact hP, va_K.moved hW.alike hK, hD⟩, hS.F ht⟩) hS.2.2 dX1_statement_33
      · have h2 := hb_3.mp c_4
        refine lv_bipush (v := (-2)) hx hb dX1_statement_20 (by decide) ?_
        exact W.iret (v := (-2)) hx hb hr (fun t ht hW => ⟨⟨(-2), (mem, bs, ops, tg, sr, sc, (nI n), sm), rfl, (aSt_2 (u := (mem, bs, ops, tg, sr, sc, nI n, sm)) h1 h2).symm, by rw [ht]; exact hP, va_K.moved hW.alike hK, hD⟩, hS.F ht⟩) hS.2.2 dX1_statement_22
    · refine lv_iconst (v := (-1)) hx hb dX1_statement_10 (by decide) ?_
      exact W.iret (v := (-1)) hx hb hr (fun t ht hW => ⟨⟨(-1), (mem, bs, ops, tg, sr, sc, (nI n), sm), rfl, (aSt_1 (u := (mem, bs, ops, tg, sr, sc, nI n, sm)) (Or.inr (fa_of_nle c_2))).symm, by rw [ht]; exact hP, va_K.moved hW.alike hK, hD⟩, hS.F ht⟩) hS.2.2 dX1_statement_11
set_option maxHeartbeats 4000000 in
set_option maxRecDepth 100000 in
/-- retract -/
theorem metX1_retract (l : Launch) (dC : Nat → ClassId) (dI : Nat → Nat → Nat) (dA : ClassId) (h : Nat) (q : Nat → Nat) (u : ha_U) (sz : Nat) : Met l yX1_retract (ws_ yX1_retract cX1_retract 1 (some .int)) ({ frames := 0, cells := 0, slots := 0, locals := 0 }) (ha_M dC dI [.ref h] sz (mwU dA h q u) (mT dA)) (va_Qi (S := ha_U) (fun (r : Int32) (y : ha_U) => (r, y) = aRetract u) (fun y t => ha_B dC dI (va_A (mwU dA h q u) sz) (mwU dA h q y) (mT dA) t) (va_A (mwU dA h q u) sz)) 0 0 (va_A (mwU dA h q u) sz) := by
  obtain ⟨mem, bs, ops, tg, sr, sc, cnt, sm⟩ := u
  refine Met.ofW (cc := cX1_retract) (maxL := 1) (ret := (some .int)) (by decide) rfl ?_
  intro p e s m args below meth c s₁ B hml hv
  obtain ⟨rfl, hsz, hP, hK, hD0⟩ := hv
  have hx := B.exec
  have hb := B.bytes
  have hr := B.returns
  have hts := atoms_spec (ws := ws_ yX1_retract cX1_retract 1 (some .int)) B.pre
  have hts : ∀ w ∈ lw_all, w.before _ s = true := fun w h => hts w (List.mem_cons_of_mem _ h)
  have hown : s.vm.findClass RX1 = some m.cls := findClass_of_methodNamed B.named
  have hlocks := B.notSynchronized
  subst hsz
  have hD := hD0.self (sz := s.heap.size)
  generalize hAe : va_A (mwU dA h q (mem, bs, ops, tg, sr, sc, cnt, sm)) s.heap.size = A at hD ⊢
  have hA : ∀ q : Nat, s.heap.size ≤ q → A q := fun q h => by rw [← hAe]; exact Or.inr h
  have hS : va_S A s.heap s.heap [] := va_S.rf
  have hD : va_D A (mw dA h q mem bs ops tg sr sc cnt sm) := hD
  have hP : va_P (dC, dI) vwCl (mw dA h q mem bs ops tg sr sc cnt sm) s.heap := hP
  have hl := lv_entry ([.ref h]) (n := 1) (Nat.le_of_ble_eq_true rfl)
  rw [lg_entry_eq]
  generalize (lg_sl ([.ref h]) ++ List.replicate (1 - (lg_sl ([.ref h])).length) Slot.unset).toArray = ls at hl ⊢
  have hl : lv_has ls 1 [(0, .ref h)] := hl
  refine lv_aload_n hx hb dX1_retract_0 rfl (lv_at hl 0 rfl) ?_
  refine va_get (D := (dC, dI)) (ci := 1) (v := .int cnt) (C := RX1) (T := TX1) (N := 8) hx hb hts in_X1 hown hK hP 0 rfl rfl 3 (by decide) (hts _ q190) (fun _ h9 => h9) rfl dX1_retract_1 ?_
  refine lv_if_ne (tgt := 9) hx hb dX1_retract_4 (by decide) (fun c_1 => ?_) (fun c_1 => ?_)
  · refine lv_aload_n hx hb dX1_retract_9 rfl (lv_at hl 0 rfl) ?_
    refine lv_dup hx hb dX1_retract_10 rfl ?_
    refine va_get (D := (dC, dI)) (ci := 1) (v := .int cnt) (C := RX1) (T := TX1) (N := 8) hx hb hts in_X1 hown hK hP 0 rfl rfl 3 (by decide) (hts _ q190) (fun _ h9 => h9) rfl dX1_retract_11 ?_
    refine lv_iconst (v := 1) hx hb dX1_retract_14 (by decide) ?_
    refine lv_isub hx hb dX1_retract_15 ?_
    refine va_put (D := (dC, dI)) (ci := 1) (v := .int (cnt - 1)) (ty := .int) (C := RX1) (T := TX1) (N := 8) hx hb hts in_X1 tyX1 tyX1_ok nmX1 hown hK hP hD hS 0 rfl rfl 3 (by decide) (hts _ q190) (fun _ h9 => h9) rfl (by decide +kernel) rfl rfl (Nat.le_of_ble_eq_true rfl) dX1_retract_16 (fun H locs hP hD hS => ?_)
    have hP : va_P (dC, dI) vwCl (mw dA h q mem bs ops tg sr sc (cnt - 1) sm) H := hP
    have hD : va_D A (mw dA h q mem bs ops tg sr sc (cnt - 1) sm) := hD
    refine lv_aload_n hx hb dX1_retract_19 rfl (lv_at hl 0 rfl) ?_
    refine va_get (D := (dC, dI)) (ci := 1) (v := .int (cnt - 1)) (C := RX1) (T := TX1) (N := 8) hx hb hts in_X1 hown hK hP 0 rfl rfl 3 (by decide) (hts _ q190) (fun _ h9 => h9) rfl dX1_retract_20 ?_
    exact W.iret (v := (cnt - 1)) hx hb hr (fun t ht hW => ⟨⟨(cnt - 1), (mem, bs, ops, tg, sr, sc, (cnt - 1), sm), rfl, (aRt_2 (u := (mem, bs, ops, tg, sr, sc, cnt, sm)) c_1).symm, by rw [ht]; exact hP, va_K.moved hW.alike hK, hD⟩, hS.F ht⟩) hS.2.2 dX1_retract_23
  · refine lv_iconst (v := (-1)) hx hb dX1_retract_7 (by decide) ?_
    exact W.iret (v := (-1)) hx hb hr (fun t ht hW => ⟨⟨(-1), (mem, bs, ops, tg, sr, sc, cnt, sm), rfl, (aRt_1 (u := (mem, bs, ops, tg, sr, sc, cnt, sm)) c_1).symm, by rw [ht]; exact hP, va_K.moved hW.alike hK, hD⟩, hS.F ht⟩) hS.2.2 dX1_retract_8
set_option maxHeartbeats 4000000 in
set_option maxRecDepth 100000 in
/-- clear -/
theorem metX1_clear (l : Launch) (dC : Nat → ClassId) (dI : Nat → Nat → Nat) (dA : ClassId) (h : Nat) (q : Nat → Nat) (u : ha_U) (sz : Nat) : Met l yX1_clear (ws_ yX1_clear cX1_clear 2 (some .int)) ({ frames := 0, cells := 0, slots := 0, locals := 0 }) (ha_M dC dI [.ref h] sz (mwU dA h q u) (mT dA)) (va_Qi (S := ha_U) (fun (r : Int32) (y : ha_U) => (r, y) = aClear u) (fun y t => ha_B dC dI (va_A (mwU dA h q u) sz) (mwU dA h q y) (mT dA) t) (va_A (mwU dA h q u) sz)) 0 0 (va_A (mwU dA h q u) sz) := by
  obtain ⟨mem, bs, ops, tg, sr, sc, cnt, sm⟩ := u
  refine Met.ofW (cc := cX1_clear) (maxL := 2) (ret := (some .int)) (by decide) rfl ?_
  intro p e s m args below meth c s₁ B hml hv
  obtain ⟨rfl, hsz, hP, hK, hD0⟩ := hv
  have hx := B.exec
  have hb := B.bytes
  have hr := B.returns
  have hts := atoms_spec (ws := ws_ yX1_clear cX1_clear 2 (some .int)) B.pre
  have hts : ∀ w ∈ lw_all, w.before _ s = true := fun w h => hts w (List.mem_cons_of_mem _ h)
  have hown : s.vm.findClass RX1 = some m.cls := findClass_of_methodNamed B.named
  have hlocks := B.notSynchronized
  subst hsz
  have hD := hD0.self (sz := s.heap.size)
  generalize hAe : va_A (mwU dA h q (mem, bs, ops, tg, sr, sc, cnt, sm)) s.heap.size = A at hD ⊢
  have hA : ∀ q : Nat, s.heap.size ≤ q → A q := fun q h => by rw [← hAe]; exact Or.inr h
  have hS : va_S A s.heap s.heap [] := va_S.rf
  have hD : va_D A (mw dA h q mem bs ops tg sr sc cnt sm) := hD
  have hP : va_P (dC, dI) vwCl (mw dA h q mem bs ops tg sr sc cnt sm) s.heap := hP
  have hl := lv_entry ([.ref h]) (n := 2) (Nat.le_of_ble_eq_true rfl)
  rw [lg_entry_eq]
  generalize (lg_sl ([.ref h]) ++ List.replicate (2 - (lg_sl ([.ref h])).length) Slot.unset).toArray = ls at hl ⊢
  have hl : lv_has ls 2 [(0, .ref h)] := hl
  refine lv_aload_n hx hb dX1_clear_0 rfl (lv_at hl 0 rfl) ?_
  refine va_get (D := (dC, dI)) (ci := 1) (v := .int cnt) (C := RX1) (T := TX1) (N := 8) hx hb hts in_X1 hown hK hP 0 rfl rfl 3 (by decide) (hts _ q190) (fun _ h9 => h9) rfl dX1_clear_1 ?_
  refine lv_istore_n (lv' := [(1, .int cnt), (0, .ref h)]) hx hb dX1_clear_4 rfl hl (by decide) rfl (fun ls hl => ?_)
  refine lv_aload_n hx hb dX1_clear_5 rfl (lv_at hl 1 rfl) ?_
  refine lv_iconst (v := 0) hx hb dX1_clear_6 (by decide) ?_
  refine va_put (D := (dC, dI)) (ci := 1) (v := .int 0) (ty := .int) (C := RX1) (T := TX1) (N := 8) hx hb hts in_X1 tyX1 tyX1_ok nmX1 hown hK hP hD hS 0 rfl rfl 3 (by decide) (hts _ q190) (fun _ h9 => h9) rfl (by decide +kernel) rfl rfl (Nat.le_of_ble_eq_true rfl) dX1_clear_7 (fun H locs hP hD hS => ?_)
  have hP : va_P (dC, dI) vwCl (mw dA h q mem bs ops tg sr sc 0 sm) H := hP
  have hD : va_D A (mw dA h q mem bs ops tg sr sc 0 sm) := hD
  refine lv_iload_n hx hb dX1_clear_10 rfl (lv_at hl 0 rfl) ?_
  exact W.iret (v := cnt) hx hb hr (fun t ht hW => ⟨⟨cnt, (mem, bs, ops, tg, sr, sc, 0, sm), rfl, rfl, by rw [ht]; exact hP, va_K.moved hW.alike hK, hD⟩, hS.F ht⟩) hS.2.2 dX1_clear_11
set_option maxHeartbeats 4000000 in
set_option maxRecDepth 100000 in
/-- statements -/
theorem metX1_statements (l : Launch) (dC : Nat → ClassId) (dI : Nat → Nat → Nat) (dA : ClassId) (h : Nat) (q : Nat → Nat) (u : ha_U) : Met l yX1_statements (ws_ yX1_statements cX1_statements 1 (some .int)) ({ frames := 0, cells := 0, slots := 0, locals := 0 }) (ha_R dC dI [.ref h] (mwU dA h q u) (mT dA)) (vp_Si (fun r => r = u.2.2.2.2.2.2.1)) 0 0 (fun _ => False) := by
  obtain ⟨mem, bs, ops, tg, sr, sc, cnt, sm⟩ := u
  refine Met.ofW (cc := cX1_statements) (maxL := 1) (ret := (some .int)) (by decide) rfl ?_
  intro p e s m args below meth c s₁ B hml hv
  obtain ⟨rfl, hP, hK⟩ := hv
  have hx := B.exec
  have hb := B.bytes
  have hr := B.returns
  have hts := atoms_spec (ws := ws_ yX1_statements cX1_statements 1 (some .int)) B.pre
  have hts : ∀ w ∈ lw_all, w.before _ s = true := fun w h => hts w (List.mem_cons_of_mem _ h)
  have hown : s.vm.findClass RX1 = some m.cls := findClass_of_methodNamed B.named
  have hlocks := B.notSynchronized
  have hP : va_P (dC, dI) vwCl (mw dA h q mem bs ops tg sr sc cnt sm) s.heap := hP
  have hl := lv_entry ([.ref h]) (n := 1) (Nat.le_of_ble_eq_true rfl)
  rw [lg_entry_eq]
  generalize (lg_sl ([.ref h]) ++ List.replicate (1 - (lg_sl ([.ref h])).length) Slot.unset).toArray = ls at hl ⊢
  have hl : lv_has ls 1 [(0, .ref h)] := hl
  refine lv_aload_n hx hb dX1_statements_0 rfl (lv_at hl 0 rfl) ?_
  refine va_get (D := (dC, dI)) (ci := 1) (v := .int cnt) (C := RX1) (T := TX1) (N := 8) hx hb hts in_X1 hown hK hP 0 rfl rfl 3 (by decide) (hts _ q190) (fun _ h9 => h9) rfl dX1_statements_1 ?_
  exact W.iret (v := cnt) hx hb hr (fun t ht hW => ⟨cnt, rfl, rfl, ht⟩) (fun _ h => absurd h List.not_mem_nil) dX1_statements_4
set_option maxHeartbeats 4000000 in
set_option maxRecDepth 100000 in
/-- total -/
theorem metX1_total (l : Launch) (dC : Nat → ClassId) (dI : Nat → Nat → Nat) (dA : ClassId) (h : Nat) (q : Nat → Nat) (u : ha_U) : Met l yX1_total (ws_ yX1_total cX1_total 1 (some .int)) ({ frames := 0, cells := 0, slots := 0, locals := 0 }) (ha_R dC dI [.ref h] (mwU dA h q u) (mT dA)) (vp_Si (fun r => r = u.2.2.2.2.2.2.2)) 0 0 (fun _ => False) := by
  obtain ⟨mem, bs, ops, tg, sr, sc, cnt, sm⟩ := u
  refine Met.ofW (cc := cX1_total) (maxL := 1) (ret := (some .int)) (by decide) rfl ?_
  intro p e s m args below meth c s₁ B hml hv
  obtain ⟨rfl, hP, hK⟩ := hv
  have hx := B.exec
  have hb := B.bytes
  have hr := B.returns
  have hts := atoms_spec (ws := ws_ yX1_total cX1_total 1 (some .int)) B.pre
  have hts : ∀ w ∈ lw_all, w.before _ s = true := fun w h => hts w (List.mem_cons_of_mem _ h)
  have hown : s.vm.findClass RX1 = some m.cls := findClass_of_methodNamed B.named
  have hlocks := B.notSynchronized
  have hP : va_P (dC, dI) vwCl (mw dA h q mem bs ops tg sr sc cnt sm) s.heap := hP
  have hl := lv_entry ([.ref h]) (n := 1) (Nat.le_of_ble_eq_true rfl)
  rw [lg_entry_eq]
  generalize (lg_sl ([.ref h]) ++ List.replicate (1 - (lg_sl ([.ref h])).length) Slot.unset).toArray = ls at hl ⊢
  have hl : lv_has ls 1 [(0, .ref h)] := hl
  refine lv_aload_n hx hb dX1_total_0 rfl (lv_at hl 0 rfl) ?_
  refine va_get (D := (dC, dI)) (ci := 1) (v := .int sm) (C := RX1) (T := TX1) (N := 8) hx hb hts in_X1 hown hK hP 0 rfl rfl 2 (by decide) (hts _ q189) (fun _ h9 => h9) rfl dX1_total_1 ?_
  exact W.iret (v := sm) hx hb hr (fun t ht hW => ⟨sm, rfl, rfl, ht⟩) (fun _ h => absurd h List.not_mem_nil) dX1_total_4
set_option maxHeartbeats 4000000 in
set_option maxRecDepth 100000 in
/-- setTotal -/
theorem metX1_setTotal (l : Launch) (dC : Nat → ClassId) (dI : Nat → Nat → Nat) (dA : ClassId) (h : Nat) (q : Nat → Nat) (u : ha_U) (sz : Nat) (p0 : Int32) : Met l yX1_setTotal (ws_ yX1_setTotal cX1_setTotal 3 (some .int)) ({ frames := 0, cells := 0, slots := 0, locals := 0 }) (ha_M dC dI [.ref h, .int p0] sz (mwU dA h q u) (mT dA)) (va_Qi (S := ha_U) (fun (r : Int32) (y : ha_U) => (r, y) = aSetTotal u p0) (fun y t => ha_B dC dI (va_A (mwU dA h q u) sz) (mwU dA h q y) (mT dA) t) (va_A (mwU dA h q u) sz)) 0 0 (va_A (mwU dA h q u) sz) := by
  obtain ⟨mem, bs, ops, tg, sr, sc, cnt, sm⟩ := u
  refine Met.ofW (cc := cX1_setTotal) (maxL := 3) (ret := (some .int)) (by decide) rfl ?_
  intro p e s m args below meth c s₁ B hml hv
  obtain ⟨rfl, hsz, hP, hK, hD0⟩ := hv
  have hx := B.exec
  have hb := B.bytes
  have hr := B.returns
  have hts := atoms_spec (ws := ws_ yX1_setTotal cX1_setTotal 3 (some .int)) B.pre
  have hts : ∀ w ∈ lw_all, w.before _ s = true := fun w h => hts w (List.mem_cons_of_mem _ h)
  have hown : s.vm.findClass RX1 = some m.cls := findClass_of_methodNamed B.named
  have hlocks := B.notSynchronized
  subst hsz
  have hD := hD0.self (sz := s.heap.size)
  generalize hAe : va_A (mwU dA h q (mem, bs, ops, tg, sr, sc, cnt, sm)) s.heap.size = A at hD ⊢
  have hA : ∀ q : Nat, s.heap.size ≤ q → A q := fun q h => by rw [← hAe]; exact Or.inr h
  have hS : va_S A s.heap s.heap [] := va_S.rf
  have hD : va_D A (mw dA h q mem bs ops tg sr sc cnt sm) := hD
  have hP : va_P (dC, dI) vwCl (mw dA h q mem bs ops tg sr sc cnt sm) s.heap := hP
  have hl := lv_entry ([.ref h, .int p0]) (n := 3) (Nat.le_of_ble_eq_true rfl)
  rw [lg_entry_eq]
  generalize (lg_sl ([.ref h, .int p0]) ++ List.replicate (3 - (lg_sl ([.ref h, .int p0])).length) Slot.unset).toArray = ls at hl ⊢
  have hl : lv_has ls 3 [(0, .ref h), (1, .int p0)] := hl
  refine lv_aload_n hx hb dX1_setTotal_0 rfl (lv_at hl 0 rfl) ?_
  refine va_get (D := (dC, dI)) (ci := 1) (v := .int sm) (C := RX1) (T := TX1) (N := 8) hx hb hts in_X1 hown hK hP 0 rfl rfl 2 (by decide) (hts _ q189) (fun _ h9 => h9) rfl dX1_setTotal_1 ?_
  refine lv_istore_n (lv' := [(2, .int sm), (0, .ref h), (1, .int p0)]) hx hb dX1_setTotal_4 rfl hl (by decide) rfl (fun ls hl => ?_)
  refine lv_aload_n hx hb dX1_setTotal_5 rfl (lv_at hl 1 rfl) ?_
  refine lv_iload_n hx hb dX1_setTotal_6 rfl (lv_at hl 2 rfl) ?_
  refine va_put (D := (dC, dI)) (ci := 1) (v := .int p0) (ty := .int) (C := RX1) (T := TX1) (N := 8) hx hb hts in_X1 tyX1 tyX1_ok nmX1 hown hK hP hD hS 0 rfl rfl 2 (by decide) (hts _ q189) (fun _ h9 => h9) rfl (by decide +kernel) rfl rfl (Nat.le_of_ble_eq_true rfl) dX1_setTotal_7 (fun H locs hP hD hS => ?_)
  have hP : va_P (dC, dI) vwCl (mw dA h q mem bs ops tg sr sc cnt p0) H := hP
  have hD : va_D A (mw dA h q mem bs ops tg sr sc cnt p0) := hD
  refine lv_iload_n hx hb dX1_setTotal_10 rfl (lv_at hl 0 rfl) ?_
  exact W.iret (v := sm) hx hb hr (fun t ht hW => ⟨⟨sm, (mem, bs, ops, tg, sr, sc, cnt, p0), rfl, rfl, by rw [ht]; exact hP, va_K.moved hW.alike hK, hD⟩, hS.F ht⟩) hS.2.2 dX1_setTotal_11
set_option maxHeartbeats 4000000 in
set_option maxRecDepth 100000 in
/-- base -/
theorem metX1_base (l : Launch) (dC : Nat → ClassId) (dI : Nat → Nat → Nat) (dA : ClassId) (h : Nat) (q : Nat → Nat) (u : ha_U) (sz : Nat) (p0 : Int32) (p1 : Int32) : Met l yX1_base (ws_ yX1_base cX1_base 4 (some .int)) ({ frames := 0, cells := 0, slots := 0, locals := 0 }) (ha_M dC dI [.ref h, .int p0, .int p1] sz (mwU dA h q u) (mT dA)) (va_Qi (S := ha_U) (fun (r : Int32) (y : ha_U) => (r, y) = aBase u p0 p1) (fun y t => ha_B dC dI (va_A (mwU dA h q u) sz) (mwU dA h q y) (mT dA) t) (va_A (mwU dA h q u) sz)) 0 0 (va_A (mwU dA h q u) sz) := by
  obtain ⟨mem, bs, ops, tg, sr, sc, cnt, sm⟩ := u
  refine Met.ofW (cc := cX1_base) (maxL := 4) (ret := (some .int)) (by decide) rfl ?_
  intro p e s m args below meth c s₁ B hml hv
  obtain ⟨rfl, hsz, hP, hK, hD0⟩ := hv
  have hx := B.exec
  have hb := B.bytes
  have hr := B.returns
  have hts := atoms_spec (ws := ws_ yX1_base cX1_base 4 (some .int)) B.pre
  have hts : ∀ w ∈ lw_all, w.before _ s = true := fun w h => hts w (List.mem_cons_of_mem _ h)
  have hown : s.vm.findClass RX1 = some m.cls := findClass_of_methodNamed B.named
  have hlocks := B.notSynchronized
  subst hsz
  have hD := hD0.self (sz := s.heap.size)
  generalize hAe : va_A (mwU dA h q (mem, bs, ops, tg, sr, sc, cnt, sm)) s.heap.size = A at hD ⊢
  have hA : ∀ q : Nat, s.heap.size ≤ q → A q := fun q h => by rw [← hAe]; exact Or.inr h
  have hS : va_S A s.heap s.heap [] := va_S.rf
  have hD : va_D A (mw dA h q mem bs ops tg sr sc cnt sm) := hD
  have hP : va_P (dC, dI) vwCl (mw dA h q mem bs ops tg sr sc cnt sm) s.heap := hP
  have hl := lv_entry ([.ref h, .int p0, .int p1]) (n := 4) (Nat.le_of_ble_eq_true rfl)
  rw [lg_entry_eq]
  generalize (lg_sl ([.ref h, .int p0, .int p1]) ++ List.replicate (4 - (lg_sl ([.ref h, .int p0, .int p1])).length) Slot.unset).toArray = ls at hl ⊢
  have hl : lv_has ls 4 [(0, .ref h), (1, .int p0), (2, .int p1)] := hl
  refine lv_iload_n hx hb dX1_base_0 rfl (lv_at hl 1 rfl) ?_
  refine lv_if_lt (tgt := 9) hx hb dX1_base_1 (by decide) (fun c_1 => ?_) (fun c_1 => ?_)
  · refine lv_iconst (v := (-1)) hx hb dX1_base_9 (by decide) ?_
    exact W.iret (v := (-1)) hx hb hr (fun t ht hW => ⟨⟨(-1), (mem, bs, ops, tg, sr, sc, cnt, sm), rfl, (aBs_1 (u := (mem, bs, ops, tg, sr, sc, cnt, sm)) (Or.inl c_1)).symm, by rw [ht]; exact hP, va_K.moved hW.alike hK, hD⟩, hS.F ht⟩) hS.2.2 dX1_base_10
  · refine lv_iload_n hx hb dX1_base_4 rfl (lv_at hl 1 rfl) ?_
    refine lv_iconst (v := 3) hx hb dX1_base_5 (by decide) ?_
    refine lv_icmp_le (tgt := 11) hx hb dX1_base_6 (by decide) (fun c_2 => ?_) (fun c_2 => ?_)
    · refine lv_iload_n hx hb dX1_base_11 rfl (lv_at hl 2 rfl) ?_
      refine lv_if_lt (tgt := 21) hx hb dX1_base_12 (by decide) (fun c_3 => ?_) (fun c_3 => ?_)
      · refine lv_bipush (v := (-2)) hx hb dX1_base_21 (by decide) ?_
        exact W.iret (v := (-2)) hx hb hr (fun t ht hW => ⟨⟨(-2), (mem, bs, ops, tg, sr, sc, cnt, sm), rfl, (aBs_2 (u := (mem, bs, ops, tg, sr, sc, cnt, sm)) (fun z => z.elim c_1 (fa_of_le_not c_2)) (Or.inl c_3)).symm, by rw [ht]; exact hP, va_K.moved hW.alike hK, hD⟩, hS.F ht⟩) hS.2.2 dX1_base_23
      · refine lv_iload_n hx hb dX1_base_15 rfl (lv_at hl 2 rfl) ?_
        refine lv_bipush (v := 63) hx hb dX1_base_16 (by decide) ?_
        refine lv_icmp_le (tgt := 24) hx hb dX1_base_18 (by decide) (fun c_4 => ?_) (fun c_4 => ?_)
        · refine lv_aload_n hx hb dX1_base_24 rfl (lv_at hl 0 rfl) ?_
          refine va_get (D := (dC, dI)) (ci := 1) (v := .ref (q 1)) (C := RX1) (T := TX1) (N := 8) hx hb hts in_X1 hown hK hP 0 rfl rfl 1 (by decide) (hts _ q188) (fun _ h9 => h9) rfl dX1_base_25 ?_
          refine lv_iload_n hx hb dX1_base_28 rfl (lv_at hl 1 rfl) ?_
          refine va_iald hx hb hK hP 2 0 rfl rfl (ha_in4 c_1 (fa_of_le_not c_2)) dX1_base_29 ?_
          refine lv_istore_n (lv' := [(3, .int (bs p0.toNatClampNeg)), (0, .ref h), (1, .int p0), (2, .int p1)]) hx hb dX1_base_30 rfl hl (by decide) rfl (fun ls hl => ?_)
          refine lv_aload_n hx hb dX1_base_31 rfl (lv_at hl 1 rfl) ?_
          refine va_get (D := (dC, dI)) (ci := 1) (v := .ref (q 1)) (C := RX1) (T := TX1) (N := 8) hx hb hts in_X1 hown hK hP 0 rfl rfl 1 (by decide) (hts _ q188) (fun _ h9 => h9) rfl dX1_base_32 ?_
          refine lv_iload_n hx hb dX1_base_35 rfl (lv_at hl 2 rfl) ?_
          refine lv_iload_n hx hb dX1_base_36 rfl (lv_at hl 3 rfl) ?_
          refine va_iast hx hb hK hP hD hS 2 0 rfl rfl (ha_in4 c_1 (fa_of_le_not c_2)) dX1_base_37 (fun H locs hP hD hS => ?_)
          have hP : va_P (dC, dI) vwCl (mw dA h q mem (upd bs p0.toNatClampNeg p1) ops tg sr sc cnt sm) H := hP
          have hD : va_D A (mw dA h q mem (upd bs p0.toNatClampNeg p1) ops tg sr sc cnt sm) := hD
          refine lv_iload_n hx hb dX1_base_38 rfl (lv_at hl 0 rfl) ?_
          exact W.iret (v := (bs p0.toNatClampNeg)) hx hb hr (fun t ht hW => ⟨⟨(bs p0.toNatClampNeg), (mem, (upd bs p0.toNatClampNeg p1), ops, tg, sr, sc, cnt, sm), rfl, (aBs_3 (u := (mem, bs, ops, tg, sr, sc, cnt, sm)) (fun z => z.elim c_1 (fa_of_le_not c_2)) (fun z => z.elim c_3 (fun y => y ((ha_le63 _).mp c_4)))).symm, by rw [ht]; exact hP, va_K.moved hW.alike hK, hD⟩, hS.F ht⟩) hS.2.2 dX1_base_39
        · refine lv_bipush (v := (-2)) hx hb dX1_base_21 (by decide) ?_
          exact W.iret (v := (-2)) hx hb hr (fun t ht hW => ⟨⟨(-2), (mem, bs, ops, tg, sr, sc, cnt, sm), rfl, (aBs_2 (u := (mem, bs, ops, tg, sr, sc, cnt, sm)) (fun z => z.elim c_1 (fa_of_le_not c_2)) (Or.inr (fun z => c_4 ((ha_le63 _).mpr z)))).symm, by rw [ht]; exact hP, va_K.moved hW.alike hK, hD⟩, hS.F ht⟩) hS.2.2 dX1_base_23
    · refine lv_iconst (v := (-1)) hx hb dX1_base_9 (by decide) ?_
      exact W.iret (v := (-1)) hx hb hr (fun t ht hW => ⟨⟨(-1), (mem, bs, ops, tg, sr, sc, cnt, sm), rfl, (aBs_1 (u := (mem, bs, ops, tg, sr, sc, cnt, sm)) (Or.inr (fa_of_nle c_2))).symm, by rw [ht]; exact hP, va_K.moved hW.alike hK, hD⟩, hS.F ht⟩) hS.2.2 dX1_base_10
set_option maxHeartbeats 4000000 in
set_option maxRecDepth 100000 in
/-- poke -/
theorem metX1_poke (l : Launch) (dC : Nat → ClassId) (dI : Nat → Nat → Nat) (dA : ClassId) (h : Nat) (q : Nat → Nat) (u : ha_U) (sz : Nat) (p0 : Int32) (p1 : Int32) : Met l yX1_poke (ws_ yX1_poke cX1_poke 3 (some .int)) ({ frames := 0, cells := 0, slots := 0, locals := 0 }) (ha_M dC dI [.ref h, .int p0, .int p1] sz (mwU dA h q u) (mT dA)) (va_Qi (S := ha_U) (fun (r : Int32) (y : ha_U) => (r, y) = aPoke u p0 p1) (fun y t => ha_B dC dI (va_A (mwU dA h q u) sz) (mwU dA h q y) (mT dA) t) (va_A (mwU dA h q u) sz)) 0 0 (va_A (mwU dA h q u) sz) := by
  obtain ⟨mem, bs, ops, tg, sr, sc, cnt, sm⟩ := u
  refine Met.ofW (cc := cX1_poke) (maxL := 3) (ret := (some .int)) (by decide) rfl ?_
  intro p e s m args below meth c s₁ B hml hv
  obtain ⟨rfl, hsz, hP, hK, hD0⟩ := hv
  have hx := B.exec
  have hb := B.bytes
  have hr := B.returns
  have hts := atoms_spec (ws := ws_ yX1_poke cX1_poke 3 (some .int)) B.pre
  have hts : ∀ w ∈ lw_all, w.before _ s = true := fun w h => hts w (List.mem_cons_of_mem _ h)
  have hown : s.vm.findClass RX1 = some m.cls := findClass_of_methodNamed B.named
  have hlocks := B.notSynchronized
  subst hsz
  have hD := hD0.self (sz := s.heap.size)
  generalize hAe : va_A (mwU dA h q (mem, bs, ops, tg, sr, sc, cnt, sm)) s.heap.size = A at hD ⊢
  have hA : ∀ q : Nat, s.heap.size ≤ q → A q := fun q h => by rw [← hAe]; exact Or.inr h
  have hS : va_S A s.heap s.heap [] := va_S.rf
  have hD : va_D A (mw dA h q mem bs ops tg sr sc cnt sm) := hD
  have hP : va_P (dC, dI) vwCl (mw dA h q mem bs ops tg sr sc cnt sm) s.heap := hP
  have hl := lv_entry ([.ref h, .int p0, .int p1]) (n := 3) (Nat.le_of_ble_eq_true rfl)
  rw [lg_entry_eq]
  generalize (lg_sl ([.ref h, .int p0, .int p1]) ++ List.replicate (3 - (lg_sl ([.ref h, .int p0, .int p1])).length) Slot.unset).toArray = ls at hl ⊢
  have hl : lv_has ls 3 [(0, .ref h), (1, .int p0), (2, .int p1)] := hl
  refine lv_iload_n hx hb dX1_poke_0 rfl (lv_at hl 1 rfl) ?_
  refine lv_if_lt (tgt := 10) hx hb dX1_poke_1 (by decide) (fun c_1 => ?_) (fun c_1 => ?_)
  · refine lv_iconst (v := (-1)) hx hb dX1_poke_10 (by decide) ?_
    exact W.iret (v := (-1)) hx hb hr (fun t ht hW => ⟨⟨(-1), (mem, bs, ops, tg, sr, sc, cnt, sm), rfl, (aPk_1 (u := (mem, bs, ops, tg, sr, sc, cnt, sm)) (Or.inl c_1)).symm, by rw [ht]; exact hP, va_K.moved hW.alike hK, hD⟩, hS.F ht⟩) hS.2.2 dX1_poke_11
  · refine lv_iload_n hx hb dX1_poke_4 rfl (lv_at hl 1 rfl) ?_
    refine lv_bipush (v := 63) hx hb dX1_poke_5 (by decide) ?_
    refine lv_icmp_le (tgt := 12) hx hb dX1_poke_7 (by decide) (fun c_2 => ?_) (fun c_2 => ?_)
    · refine lv_aload_n hx hb dX1_poke_12 rfl (lv_at hl 0 rfl) ?_
      refine va_get (D := (dC, dI)) (ci := 1) (v := .ref (q 0)) (C := RX1) (T := TX1) (N := 8) hx hb hts in_X1 hown hK hP 0 rfl rfl 0 (by decide) (hts _ q187) (fun _ h9 => h9) rfl dX1_poke_13 ?_
      refine lv_iload_n hx hb dX1_poke_16 rfl (lv_at hl 1 rfl) ?_
      refine lv_iload_n hx hb dX1_poke_17 rfl (lv_at hl 2 rfl) ?_
      refine va_iast hx hb hK hP hD hS 1 0 rfl rfl (ha_in64 c_1 ((ha_le63 _).mp c_2)) dX1_poke_18 (fun H locs hP hD hS => ?_)
      have hP : va_P (dC, dI) vwCl (mw dA h q (upd mem p0.toNatClampNeg p1) bs ops tg sr sc cnt sm) H := hP
      have hD : va_D A (mw dA h q (upd mem p0.toNatClampNeg p1) bs ops tg sr sc cnt sm) := hD
      refine lv_iconst (v := 0) hx hb dX1_poke_19 (by decide) ?_
      exact W.iret (v := 0) hx hb hr (fun t ht hW => ⟨⟨0, ((upd mem p0.toNatClampNeg p1), bs, ops, tg, sr, sc, cnt, sm), rfl, (aPk_2 (u := (mem, bs, ops, tg, sr, sc, cnt, sm)) (fun z => z.elim c_1 (fun y => y ((ha_le63 _).mp c_2)))).symm, by rw [ht]; exact hP, va_K.moved hW.alike hK, hD⟩, hS.F ht⟩) hS.2.2 dX1_poke_20
    · refine lv_iconst (v := (-1)) hx hb dX1_poke_10 (by decide) ?_
      exact W.iret (v := (-1)) hx hb hr (fun t ht hW => ⟨⟨(-1), (mem, bs, ops, tg, sr, sc, cnt, sm), rfl, (aPk_1 (u := (mem, bs, ops, tg, sr, sc, cnt, sm)) (Or.inr (fun z => c_2 ((ha_le63 _).mpr z)))).symm, by rw [ht]; exact hP, va_K.moved hW.alike hK, hD⟩, hS.F ht⟩) hS.2.2 dX1_poke_11
set_option maxHeartbeats 4000000 in
set_option maxRecDepth 100000 in
/-- peek -/
theorem metX1_peek (l : Launch) (dC : Nat → ClassId) (dI : Nat → Nat → Nat) (dA : ClassId) (h : Nat) (q : Nat → Nat) (u : ha_U) (p0 : Int32) : Met l yX1_peek (ws_ yX1_peek cX1_peek 2 (some .int)) ({ frames := 0, cells := 0, slots := 0, locals := 0 }) (ha_R dC dI [.ref h, .int p0] (mwU dA h q u) (mT dA)) (vp_Si (fun r => r = aPeek u p0)) 0 0 (fun _ => False) := by
  obtain ⟨mem, bs, ops, tg, sr, sc, cnt, sm⟩ := u
  refine Met.ofW (cc := cX1_peek) (maxL := 2) (ret := (some .int)) (by decide) rfl ?_
  intro p e s m args below meth c s₁ B hml hv
  obtain ⟨rfl, hP, hK⟩ := hv
  have hx := B.exec
  have hb := B.bytes
  have hr := B.returns
  have hts := atoms_spec (ws := ws_ yX1_peek cX1_peek 2 (some .int)) B.pre
  have hts : ∀ w ∈ lw_all, w.before _ s = true := fun w h => hts w (List.mem_cons_of_mem _ h)
  have hown : s.vm.findClass RX1 = some m.cls := findClass_of_methodNamed B.named
  have hlocks := B.notSynchronized
  have hP : va_P (dC, dI) vwCl (mw dA h q mem bs ops tg sr sc cnt sm) s.heap := hP
  have hl := lv_entry ([.ref h, .int p0]) (n := 2) (Nat.le_of_ble_eq_true rfl)
  rw [lg_entry_eq]
  generalize (lg_sl ([.ref h, .int p0]) ++ List.replicate (2 - (lg_sl ([.ref h, .int p0])).length) Slot.unset).toArray = ls at hl ⊢
  have hl : lv_has ls 2 [(0, .ref h), (1, .int p0)] := hl
  refine lv_iload_n hx hb dX1_peek_0 rfl (lv_at hl 1 rfl) ?_
  refine lv_if_lt (tgt := 10) hx hb dX1_peek_1 (by decide) (fun c_1 => ?_) (fun c_1 => ?_)
  · refine lv_iconst (v := 0) hx hb dX1_peek_10 (by decide) ?_
    refine lv_goto (tgt := 20) hx hb dX1_peek_11 (by decide) ?_
    exact W.iret (v := 0) hx hb hr (fun t ht hW => ⟨0, rfl, (aPe_1 (u := (mem, bs, ops, tg, sr, sc, cnt, sm)) (Or.inl c_1)).symm, ht⟩) (fun _ h => absurd h List.not_mem_nil) dX1_peek_20
  · refine lv_iload_n hx hb dX1_peek_4 rfl (lv_at hl 1 rfl) ?_
    refine lv_bipush (v := 63) hx hb dX1_peek_5 (by decide) ?_
    refine lv_icmp_le (tgt := 14) hx hb dX1_peek_7 (by decide) (fun c_2 => ?_) (fun c_2 => ?_)
    · refine lv_aload_n hx hb dX1_peek_14 rfl (lv_at hl 0 rfl) ?_
      refine va_get (D := (dC, dI)) (ci := 1) (v := .ref (q 0)) (C := RX1) (T := TX1) (N := 8) hx hb hts in_X1 hown hK hP 0 rfl rfl 0 (by decide) (hts _ q187) (fun _ h9 => h9) rfl dX1_peek_15 ?_
      refine lv_iload_n hx hb dX1_peek_18 rfl (lv_at hl 1 rfl) ?_
      refine va_iald hx hb hK hP 1 0 rfl rfl (ha_in64 c_1 ((ha_le63 _).mp c_2)) dX1_peek_19 ?_
      exact W.iret (v := (mem p0.toNatClampNeg)) hx hb hr (fun t ht hW => ⟨(mem p0.toNatClampNeg), rfl, (aPe_2 (u := (mem, bs, ops, tg, sr, sc, cnt, sm)) (fun z => z.elim c_1 (fun y => y ((ha_le63 _).mp c_2)))).symm, ht⟩) (fun _ h => absurd h List.not_mem_nil) dX1_peek_20
    · refine lv_iconst (v := 0) hx hb dX1_peek_10 (by decide) ?_
      refine lv_goto (tgt := 20) hx hb dX1_peek_11 (by decide) ?_
      exact W.iret (v := 0) hx hb hr (fun t ht hW => ⟨0, rfl, (aPe_1 (u := (mem, bs, ops, tg, sr, sc, cnt, sm)) (Or.inr (fun z => c_2 ((ha_le63 _).mpr z)))).symm, ht⟩) (fun _ h => absurd h List.not_mem_nil) dX1_peek_20
set_option maxHeartbeats 4000000 in
set_option maxRecDepth 100000 in
/-- fill -/
theorem metX1_fill (l : Launch) (dC : Nat → ClassId) (dI : Nat → Nat → Nat) (dA : ClassId) (h : Nat) (q : Nat → Nat) (u : ha_U) (sz : Nat) (p0 : Int32) (p1 : Int32) (p2 : Int32) (p3 : Int32) : Met l yX1_fill (ws_ yX1_fill cX1_fill 6 (some .int)) ({ frames := 0, cells := 0, slots := 0, locals := 0 }) (ha_M dC dI [.ref h, .int p0, .int p1, .int p2, .int p3] sz (mwU dA h q u) (mT dA)) (va_Qi (S := ha_U) (fun (r : Int32) (y : ha_U) => (r, y) = aFill u p0 p1 p2 p3) (fun y t => ha_B dC dI (va_A (mwU dA h q u) sz) (mwU dA h q y) (mT dA) t) (va_A (mwU dA h q u) sz)) 0 0 (va_A (mwU dA h q u) sz) := by
  obtain ⟨mem, bs, ops, tg, sr, sc, cnt, sm⟩ := u
  refine Met.ofW (cc := cX1_fill) (maxL := 6) (ret := (some .int)) (by decide) rfl ?_
  intro p e s m args below meth c s₁ B hml hv
  obtain ⟨rfl, hsz, hP, hK, hD0⟩ := hv
  have hx := B.exec
  have hb := B.bytes
  have hr := B.returns
  have hts := atoms_spec (ws := ws_ yX1_fill cX1_fill 6 (some .int)) B.pre
  have hts : ∀ w ∈ lw_all, w.before _ s = true := fun w h => hts w (List.mem_cons_of_mem _ h)
  have hown : s.vm.findClass RX1 = some m.cls := findClass_of_methodNamed B.named
  have hlocks := B.notSynchronized
  subst hsz
  have hD := hD0.self (sz := s.heap.size)
  generalize hAe : va_A (mwU dA h q (mem, bs, ops, tg, sr, sc, cnt, sm)) s.heap.size = A at hD ⊢
  have hA : ∀ q : Nat, s.heap.size ≤ q → A q := fun q h => by rw [← hAe]; exact Or.inr h
  have hS : va_S A s.heap s.heap [] := va_S.rf
  have hD : va_D A (mw dA h q mem bs ops tg sr sc cnt sm) := hD
  have hP : va_P (dC, dI) vwCl (mw dA h q mem bs ops tg sr sc cnt sm) s.heap := hP
  have hl := lv_entry ([.ref h, .int p0, .int p1, .int p2, .int p3]) (n := 6) (Nat.le_of_ble_eq_true rfl)
  rw [lg_entry_eq]
  generalize (lg_sl ([.ref h, .int p0, .int p1, .int p2, .int p3]) ++ List.replicate (6 - (lg_sl ([.ref h, .int p0, .int p1, .int p2, .int p3])).length) Slot.unset).toArray = ls at hl ⊢
  have hl : lv_has ls 6 [(0, .ref h), (1, .int p0), (2, .int p1), (3, .int p2), (4, .int p3)] := hl
  refine lv_iload_n hx hb dX1_fill_0 rfl (lv_at hl 1 rfl) ?_
  refine lv_if_lt (tgt := 15) hx hb dX1_fill_1 (by decide) (fun c_1 => ?_) (fun c_1 => ?_)
  · refine lv_iconst (v := (-1)) hx hb dX1_fill_15 (by decide) ?_
    exact W.iret (v := (-1)) hx hb hr (fun t ht hW => ⟨⟨(-1), (mem, bs, ops, tg, sr, sc, cnt, sm), rfl, (aFl_1 (u := (mem, bs, ops, tg, sr, sc, cnt, sm)) (Or.inl c_1)).symm, by rw [ht]; exact hP, va_K.moved hW.alike hK, hD⟩, hS.F ht⟩) hS.2.2 dX1_fill_16
  · refine lv_iload_n hx hb dX1_fill_4 rfl (lv_at hl 1 rfl) ?_
    refine lv_iload_n hx hb dX1_fill_5 rfl (lv_at hl 2 rfl) ?_
    refine lv_icmp_gt (tgt := 15) hx hb dX1_fill_6 (by decide) (fun c_2 => ?_) (fun c_2 => ?_)
    · refine lv_iconst (v := (-1)) hx hb dX1_fill_15 (by decide) ?_
      exact W.iret (v := (-1)) hx hb hr (fun t ht hW => ⟨⟨(-1), (mem, bs, ops, tg, sr, sc, cnt, sm), rfl, (aFl_1 (u := (mem, bs, ops, tg, sr, sc, cnt, sm)) (Or.inr (Or.inl c_2))).symm, by rw [ht]; exact hP, va_K.moved hW.alike hK, hD⟩, hS.F ht⟩) hS.2.2 dX1_fill_16
    · refine lv_iload_n hx hb dX1_fill_9 rfl (lv_at hl 2 rfl) ?_
      refine lv_bipush (v := 63) hx hb dX1_fill_10 (by decide) ?_
      refine lv_icmp_le (tgt := 17) hx hb dX1_fill_12 (by decide) (fun c_3 => ?_) (fun c_3 => ?_)
      · have hg : ¬ (p0 < 0 ∨ p1 < p0 ∨ ¬ p1 < 64) := fun z => z.elim c_1 (fun z => z.elim c_2 (fun z => z ((ha_le63 _).mp c_3)))
        obtain ⟨a, ha, ea⟩ := nI_of c_1
        obtain ⟨b, hb64, eb⟩ := ha_lt64 (fun z => hg (Or.inr (Or.inl (fa_trans z (by rw [ea]; exact nI_pos' ha))))) (Decidable.byContradiction fun z => hg (Or.inr (Or.inr z)))
        have hab : a ≤ b := by rcases Nat.lt_or_ge b a with z | z; exact absurd (by rw [ea, eb]; exact nI_lt z ha) c_2; exact z
        have e1 : p0.toNatClampNeg = a := by rw [ea]; exact nI_clamp ha
        have e2 : p1.toNatClampNeg = b := by rw [eb]; exact nI_clamp (by omega)
        refine lv_iload_n hx hb dX1_fill_17 rfl (lv_at hl 1 rfl) ?_
        refine lv_istore (lv' := [(5, .int p0), (0, .ref h), (1, .int p0), (2, .int p1), (3, .int p2), (4, .int p3)]) hx hb dX1_fill_18 hl (by decide) rfl (fun ls hl => ?_)
        refine ha_loop (σ := Nat × Heap × List Loc × Array Slot) (fun x => b + 1 - a - x.1) (fun x => (x.1 ≤ b + 1 - a) ∧ (va_P (dC, dI) vwCl (mw dA h q (xFill mem p0 p2 p3 a x.1) bs ops tg sr sc cnt sm) x.2.1) ∧ (va_D A (mw dA h q (xFill mem p0 p2 p3 a x.1) bs ops tg sr sc cnt sm)) ∧ (va_S A s.heap x.2.1 x.2.2.1) ∧ (lv_has x.2.2.2 6 [(5, .int (nI (a + x.1))), (0, .ref h), (1, .int p0), (2, .int p1), (3, .int p2), (4, .int p3)])) (fun x => x.2.1) (fun x => x.2.2.1) (fun x => F0 m 20 x.2.2.2 []) ?_ (0, s.heap, [], ls) ⟨Nat.zero_le _, hP, hD, hS, by show lv_has ls 6 [(5, .int (nI (a + 0))), (0, .ref h), (1, .int p0), (2, .int p1), (3, .int p2), (4, .int p3)]; rw [Nat.add_zero, ← ea]; exact lv_sub hl [0, 1, 2, 3, 4, 5] rfl⟩
        rintro ⟨j, H, locs, ls⟩ ⟨hj, hP, hD, hS, hl⟩ ih
        have hj : j ≤ b + 1 - a := hj
        have hP : va_P (dC, dI) vwCl (mw dA h q (xFill mem p0 p2 p3 a j) bs ops tg sr sc cnt sm) H := hP
        have hD : va_D A (mw dA h q (xFill mem p0 p2 p3 a j) bs ops tg sr sc cnt sm) := hD
        have hS : va_S A s.heap H locs := hS
        have hl : lv_has ls 6 [(5, .int (nI (a + j))), (0, .ref h), (1, .int p0), (2, .int p1), (3, .int p2), (4, .int p3)] := hl
        show W p l e _ s m _ below meth c H locs _ _ _ (F0 m 20 ls [])
        refine lv_iload hx hb dX1_fill_20 (lv_at hl 0 rfl) ?_
        refine lv_iload_n hx hb dX1_fill_22 rfl (lv_at hl 3 rfl) ?_
        refine lv_icmp_gt (tgt := 48) hx hb dX1_fill_23 (by decide) (fun c_4 => ?_) (fun c_4 => ?_)
        · have hxt : b < a + j := (nI_ltI (by omega) (by omega)).mp (by rw [← eb]; exact c_4)
          refine lv_iconst (v := 0) hx hb dX1_fill_48 (by decide) ?_
          exact W.iret (v := 0) hx hb hr (fun t ht hW => ⟨⟨0, ((xFill mem p0 p2 p3 a j), bs, ops, tg, sr, sc, cnt, sm), rfl, (aFl_3 (u := (mem, bs, ops, tg, sr, sc, cnt, sm)) hg e1 e2 (by omega)).symm, by rw [ht]; exact hP, va_K.moved hW.alike hK, hD⟩, hS.F ht⟩) hS.2.2 dX1_fill_49
        · have hlt : a + j ≤ b := by rcases Nat.lt_or_ge b (a + j) with z | z; exact absurd (by rw [eb]; exact nI_lt z (by omega)) c_4; exact z
          refine lv_aload_n hx hb dX1_fill_26 rfl (lv_at hl 1 rfl) ?_
          refine va_get (D := (dC, dI)) (ci := 1) (v := .ref (q 0)) (C := RX1) (T := TX1) (N := 8) hx hb hts in_X1 hown hK hP 0 rfl rfl 0 (by decide) (hts _ q187) (fun _ h9 => h9) rfl dX1_fill_27 ?_
          refine lv_iload hx hb dX1_fill_30 (lv_at hl 0 rfl) ?_
          refine lv_iload_n hx hb dX1_fill_32 rfl (lv_at hl 4 rfl) ?_
          refine lv_iload hx hb dX1_fill_33 (lv_at hl 0 rfl) ?_
          refine lv_iload_n hx hb dX1_fill_35 rfl (lv_at hl 2 rfl) ?_
          refine lv_isub hx hb dX1_fill_36 ?_
          refine lv_iload hx hb dX1_fill_37 (lv_at hl 5 rfl) ?_
          refine lv_imul hx hb dX1_fill_39 ?_
          refine lv_iadd hx hb dX1_fill_40 ?_
          refine ha_st hx hb hK hP hD hS 1 0 rfl rfl (a + j) (rfl) (by omega) (by decide) dX1_fill_41 (fun H locs hP hD hS => ?_)
          have hP : va_P (dC, dI) vwCl (mw dA h q (upd (xFill mem p0 p2 p3 a j) (a + j) (p2 + (((nI (a + j)) - p0) * p3))) bs ops tg sr sc cnt sm) H := hP
          have hD : va_D A (mw dA h q (upd (xFill mem p0 p2 p3 a j) (a + j) (p2 + (((nI (a + j)) - p0) * p3))) bs ops tg sr sc cnt sm) := hD
          refine lv_iinc (v := nI (a + (j + 1))) (lv' := [(5, .int (nI (a + (j + 1)))), (0, .ref h), (1, .int p0), (2, .int p1), (3, .int p2), (4, .int p3)]) hx hb dX1_fill_42 hl (k := 0) rfl (nI_1 (a + j)) (by decide) rfl (fun ls hl => ?_)
          refine lv_goto (tgt := 20) hx hb dX1_fill_45 (by decide) ?_
          exact ih (j + 1, H, locs, ls) ⟨by omega, hP, hD, hS, lv_sub hl [0, 1, 2, 3, 4, 5] rfl⟩ (by dsimp only; omega)
      · refine lv_iconst (v := (-1)) hx hb dX1_fill_15 (by decide) ?_
        exact W.iret (v := (-1)) hx hb hr (fun t ht hW => ⟨⟨(-1), (mem, bs, ops, tg, sr, sc, cnt, sm), rfl, (aFl_1 (u := (mem, bs, ops, tg, sr, sc, cnt, sm)) (Or.inr (Or.inr (fun z => c_3 ((ha_le63 _).mpr z))))).symm, by rw [ht]; exact hP, va_K.moved hW.alike hK, hD⟩, hS.F ht⟩) hS.2.2 dX1_fill_16
set_option maxHeartbeats 4000000 in
set_option maxRecDepth 100000 in
/-- digest -/
theorem metX1_digest (l : Launch) (dC : Nat → ClassId) (dI : Nat → Nat → Nat) (dA : ClassId) (h : Nat) (q : Nat → Nat) (u : ha_U) : Met l yX1_digest (ws_ yX1_digest cX1_digest 3 (some .int)) ({ frames := 0, cells := 0, slots := 0, locals := 0 }) (ha_R dC dI [.ref h] (mwU dA h q u) (mT dA)) (vp_Si (fun r => r = xDig u.1 64)) 0 0 (fun _ => False) := by
  obtain ⟨mem, bs, ops, tg, sr, sc, cnt, sm⟩ := u
  refine Met.ofW (cc := cX1_digest) (maxL := 3) (ret := (some .int)) (by decide) rfl ?_
  intro p e s m args below meth c s₁ B hml hv
  obtain ⟨rfl, hP, hK⟩ := hv
  have hx := B.exec
  have hb := B.bytes
  have hr := B.returns
  have hts := atoms_spec (ws := ws_ yX1_digest cX1_digest 3 (some .int)) B.pre
  have hts : ∀ w ∈ lw_all, w.before _ s = true := fun w h => hts w (List.mem_cons_of_mem _ h)
  have hown : s.vm.findClass RX1 = some m.cls := findClass_of_methodNamed B.named
  have hlocks := B.notSynchronized
  have hP : va_P (dC, dI) vwCl (mw dA h q mem bs ops tg sr sc cnt sm) s.heap := hP
  have hl := lv_entry ([.ref h]) (n := 3) (Nat.le_of_ble_eq_true rfl)
  rw [lg_entry_eq]
  generalize (lg_sl ([.ref h]) ++ List.replicate (3 - (lg_sl ([.ref h])).length) Slot.unset).toArray = ls at hl ⊢
  have hl : lv_has ls 3 [(0, .ref h)] := hl
  refine lv_iconst (v := 0) hx hb dX1_digest_0 (by decide) ?_
  refine lv_istore_n (lv' := [(1, .int 0), (0, .ref h)]) hx hb dX1_digest_1 rfl hl (by decide) rfl (fun ls hl => ?_)
  refine lv_iconst (v := 0) hx hb dX1_digest_2 (by decide) ?_
  refine lv_istore_n (lv' := [(2, .int 0), (1, .int 0), (0, .ref h)]) hx hb dX1_digest_3 rfl hl (by decide) rfl (fun ls hl => ?_)
  refine ha_loop (σ := Nat × Array Slot) (fun x => 64 - x.1) (fun x => (x.1 ≤ 64) ∧ (lv_has x.2 3 [(2, .int (nI (x.1))), (1, .int (xDig mem (x.1))), (0, .ref h)])) (fun x => s.heap) (fun x => []) (fun x => F0 m 4 x.2 []) ?_ (0, ls) ⟨Nat.zero_le _, lv_sub hl [0, 1, 2] rfl⟩
  rintro ⟨i, ls⟩ ⟨hi, hl⟩ ih
  have hi : i ≤ 64 := hi
  have hl : lv_has ls 3 [(2, .int (nI i)), (1, .int (xDig mem i)), (0, .ref h)] := hl
  show W p l e _ s m _ below meth c s.heap [] _ _ _ (F0 m 4 ls [])
  refine lv_iload_n hx hb dX1_digest_4 rfl (lv_at hl 0 rfl) ?_
  refine lv_bipush (v := 64) hx hb dX1_digest_5 (by decide) ?_
  refine lv_icmp_ge (tgt := 29) hx hb dX1_digest_7 (by decide) (fun c_1 => ?_) (fun c_1 => ?_)
  · have hi64 : i = 64 := by have z := (nI_leI (a := 64) (b := i) (by decide) (by omega)).mp c_1; omega
    subst hi64
    refine lv_iload_n hx hb dX1_digest_29 rfl (lv_at hl 1 rfl) ?_
    exact W.iret (v := (xDig mem 64)) hx hb hr (fun t ht hW => ⟨(xDig mem 64), rfl, rfl, ht⟩) (fun _ h => absurd h List.not_mem_nil) dX1_digest_30
  · have hlt : i < 64 := by rcases Nat.lt_or_ge i 64 with z | z; exact z; exact absurd (nI_le z (by omega)) c_1
    refine lv_iload_n hx hb dX1_digest_10 rfl (lv_at hl 1 rfl) ?_
    refine lv_iload_n hx hb dX1_digest_11 rfl (lv_at hl 0 rfl) ?_
    refine lv_iconst (v := 1) hx hb dX1_digest_12 (by decide) ?_
    refine lv_iadd hx hb dX1_digest_13 ?_
    refine lv_aload_n hx hb dX1_digest_14 rfl (lv_at hl 2 rfl) ?_
    refine va_get (D := (dC, dI)) (ci := 1) (v := .ref (q 0)) (C := RX1) (T := TX1) (N := 8) hx hb hts in_X1 hown hK hP 0 rfl rfl 0 (by decide) (hts _ q187) (fun _ h9 => h9) rfl dX1_digest_15 ?_
    refine lv_iload_n hx hb dX1_digest_18 rfl (lv_at hl 0 rfl) ?_
    refine ha_ld hx hb hK hP 1 0 rfl rfl i (rfl) (hlt) (by decide) dX1_digest_19 ?_
    refine lv_imul hx hb dX1_digest_20 ?_
    refine lv_iadd hx hb dX1_digest_21 ?_
    refine lv_istore_n (lv' := [(1, .int ((xDig mem i) + (((nI i) + 1) * (mem i)))), (2, .int (nI i)), (0, .ref h)]) hx hb dX1_digest_22 rfl hl (by decide) rfl (fun ls hl => ?_)
    refine lv_iinc (v := nI (i + 1)) (lv' := [(2, .int (nI (i + 1))), (1, .int ((xDig mem i) + (((nI i) + 1) * (mem i)))), (0, .ref h)]) hx hb dX1_digest_23 hl (k := 1) rfl (nI_1 i) (by decide) rfl (fun ls hl => ?_)
    refine lv_goto (tgt := 4) hx hb dX1_digest_26 (by decide) ?_
    exact ih (i + 1, ls) ⟨by omega, lv_sub hl [0, 1, 2] rfl⟩ (by dsimp only; omega)
set_option maxHeartbeats 4000000 in
set_option maxRecDepth 100000 in
/-- cellOf -/
theorem metX1_cellOf (l : Launch) (dC : Nat → ClassId) (dI : Nat → Nat → Nat) (dA : ClassId) (h : Nat) (q : Nat → Nat) (u : ha_U) (p0 : Int32) (p1 : Int32) : Met l yX1_cellOf (ws_ yX1_cellOf cX1_cellOf 3 (some .int)) ({ frames := 1, cells := 0, slots := 0, locals := 25 }) (ha_R dC dI [.ref h, .int p0, .int p1] (mwU dA h q u) (mT dA)) (vp_Si (fun r => r = aCellOf u p0 p1)) 0 0 (fun _ => False) := by
  obtain ⟨mem, bs, ops, tg, sr, sc, cnt, sm⟩ := u
  refine Met.ofW (cc := cX1_cellOf) (maxL := 3) (ret := (some .int)) (by decide) rfl ?_
  intro p e s m args below meth c s₁ B hml hv
  obtain ⟨rfl, hP, hK⟩ := hv
  have hx := B.exec
  have hb := B.bytes
  have hr := B.returns
  have hts := atoms_spec (ws := ws_ yX1_cellOf cX1_cellOf 3 (some .int)) B.pre
  have hts : ∀ w ∈ lw_all, w.before _ s = true := fun w h => hts w (List.mem_cons_of_mem _ h)
  have hown : s.vm.findClass RX1 = some m.cls := findClass_of_methodNamed B.named
  have hlocks := B.notSynchronized
  have hP : va_P (dC, dI) vwCl (mw dA h q mem bs ops tg sr sc cnt sm) s.heap := hP
  have hl := lv_entry ([.ref h, .int p0, .int p1]) (n := 3) (Nat.le_of_ble_eq_true rfl)
  rw [lg_entry_eq]
  generalize (lg_sl ([.ref h, .int p0, .int p1]) ++ List.replicate (3 - (lg_sl ([.ref h, .int p0, .int p1])).length) Slot.unset).toArray = ls at hl ⊢
  have hl : lv_has ls 3 [(0, .ref h), (1, .int p0), (2, .int p1)] := hl
  refine lv_aload_n hx hb dX1_cellOf_0 rfl (lv_at hl 0 rfl) ?_
  refine lv_iload_n hx hb dX1_cellOf_1 rfl (lv_at hl 1 rfl) ?_
  refine vp_callSi (W.runV (As := [.int p0]) (rest := []) ⟨hx, hb, hml, hown, hts⟩ (metX1_badRef l dC dI dA h q mem bs ops tg sr sc cnt sm p0) (cwV 1 hts (lw_V q216 q218 qs9 q15 q219) rfl rfl rfl (by decide +kernel) ⟨Nat.le_of_ble_eq_true rfl, Nat.le_of_ble_eq_true rfl⟩) ⟨ha_R_blind, va_recv hK hP (ci := 1) (q0 := 0) rfl rfl, fun U hU hW => ⟨rfl, by rw [hU]; exact hP, va_K.moved hW.alike hK⟩⟩ rfl rfl hl.1 rfl (lv_room (Nat.le_of_ble_eq_true rfl)) dX1_cellOf_2 ⟨Nat.le_of_ble_eq_true rfl, Nat.le_of_ble_eq_true rfl⟩) (fun r_ hw => ?_)
  have hb_1 : ¬ r_ = 0 ↔ ¬ xRef p0 := hw
  clear hw
  generalize r_ = b_1 at hb_1 ⊢
  refine lv_if_eq (tgt := 10) hx hb dX1_cellOf_5 (by decide) (fun c_2 => ?_) (fun c_2 => ?_)
  · have h2 := Decidable.byContradiction fun z => hb_1.mpr z c_2
    refine lv_iload_n hx hb dX1_cellOf_10 rfl (lv_at hl 2 rfl) ?_
    refine lv_if_lt (tgt := 20) hx hb dX1_cellOf_11 (by decide) (fun c_3 => ?_) (fun c_3 => ?_)
    · refine lv_bipush (v := (-2)) hx hb dX1_cellOf_20 (by decide) ?_
      exact W.iret (v := (-2)) hx hb hr (fun t ht hW => ⟨(-2), rfl, (aCo_2 (u := (mem, bs, ops, tg, sr, sc, cnt, sm)) h2 (Or.inl c_3)).symm, ht⟩) (fun _ h => absurd h List.not_mem_nil) dX1_cellOf_22
    · refine lv_iload_n hx hb dX1_cellOf_14 rfl (lv_at hl 2 rfl) ?_
      refine lv_bipush (v := 39) hx hb dX1_cellOf_15 (by decide) ?_
      refine lv_icmp_le (tgt := 23) hx hb dX1_cellOf_17 (by decide) (fun c_4 => ?_) (fun c_4 => ?_)
      · refine lv_aload_n hx hb dX1_cellOf_23 rfl (lv_at hl 0 rfl) ?_
        refine lv_iload_n hx hb dX1_cellOf_24 rfl (lv_at hl 1 rfl) ?_
        refine lv_iload_n hx hb dX1_cellOf_25 rfl (lv_at hl 2 rfl) ?_
        refine vp_callSi (W.runV (As := [.int p0, .int p1]) (rest := []) ⟨hx, hb, hml, hown, hts⟩ (metX1_place l dC dI dA h q mem bs ops tg sr sc cnt sm p0 p1 h2) (cwV 2 hts (lw_V q240 q242 qs10 q15 q243) rfl rfl rfl (by decide +kernel) ⟨Nat.le_of_ble_eq_true rfl, Nat.le_of_ble_eq_true rfl⟩) ⟨ha_R_blind, va_recv hK hP (ci := 1) (q0 := 0) rfl rfl, fun U hU hW => ⟨rfl, by rw [hU]; exact hP, va_K.moved hW.alike hK⟩⟩ rfl rfl hl.1 rfl (lv_room (Nat.le_of_ble_eq_true rfl)) dX1_cellOf_26 ⟨Nat.le_of_ble_eq_true rfl, Nat.le_of_ble_eq_true rfl⟩) (fun r_ hw => ?_)
        have hw : r_ = xCell bs p0 p1 := hw
        subst hw
        exact W.iret (v := (xCell bs p0 p1)) hx hb hr (fun t ht hW => ⟨(xCell bs p0 p1), rfl, (aCo_3 (u := (mem, bs, ops, tg, sr, sc, cnt, sm)) h2 (fun z => z.elim c_3 (fa_of_le_not c_4))).symm, ht⟩) (fun _ h => absurd h List.not_mem_nil) dX1_cellOf_29
      · refine lv_bipush (v := (-2)) hx hb dX1_cellOf_20 (by decide) ?_
        exact W.iret (v := (-2)) hx hb hr (fun t ht hW => ⟨(-2), rfl, (aCo_2 (u := (mem, bs, ops, tg, sr, sc, cnt, sm)) h2 (Or.inr (fa_of_nle c_4))).symm, ht⟩) (fun _ h => absurd h List.not_mem_nil) dX1_cellOf_22
  · have h2 := hb_1.mp c_2
    refine lv_iconst (v := (-1)) hx hb dX1_cellOf_8 (by decide) ?_
    exact W.iret (v := (-1)) hx hb hr (fun t ht hW => ⟨(-1), rfl, (aCo_1 (u := (mem, bs, ops, tg, sr, sc, cnt, sm)) h2).symm, ht⟩) (fun _ h => absurd h List.not_mem_nil) dX1_cellOf_9
end
section
theorem xVis_up {bs : ha_F} {r : Int32} {c : Nat} {a : Nat} (h : xVis bs r a c = true) : ∀ b, xVis bs r (a + b) c = true
  | 0 => h
  | b + 1 => by show (xVis bs r (a + b) c || _) = true; rw [xVis_up h b]; rfl
theorem xVis_hit {bs : ha_F} {r : Int32} {k T c : Nat} (h : k < T) (e : xN bs r k = c) : xVis bs r T c = true := by
  have h1 : xVis bs r (k + 1) c = true := by unfold xVis; rw [decide_eq_true e, Bool.or_true]
  have h2 := xVis_up h1 (T - (k + 1))
  rw [show k + 1 + (T - (k + 1)) = T by omega] at h2
  exact h2
set_option maxHeartbeats 4000000 in
set_option maxRecDepth 100000 in
/-- visits -/
theorem metX1_visits (l : Launch) (dC : Nat → ClassId) (dI : Nat → Nat → Nat) (dA : ClassId) (h : Nat) (q : Nat → Nat) (mem bs ops tg sr sc : ha_F) (cnt sm : Int32) (p0 : Int32) (T i : Nat) (hT : T ≤ 40) (hi : i < 64) (hr0 : xRef p0) : Met l yX1_visits (ws_ yX1_visits cX1_visits 5 (some .boolean)) ({ frames := 1, cells := 0, slots := 0, locals := 25 }) (ha_R dC dI [.ref h, .int p0, .int (nI T), .int (nI i)] (mw dA h q mem bs ops tg sr sc cnt sm) (mT dA)) (vp_Si (fun r => ¬ r = 0 ↔ xVis bs p0 T i = true)) 0 0 (fun _ => False) := by
  refine Met.ofW (cc := cX1_visits) (maxL := 5) (ret := (some .boolean)) (by decide) rfl ?_
  intro p e s m args below meth c s₁ B hml hv
  obtain ⟨rfl, hP, hK⟩ := hv
  have hx := B.exec
  have hb := B.bytes
  have hr := B.returns
  have hts := atoms_spec (ws := ws_ yX1_visits cX1_visits 5 (some .boolean)) B.pre
  have hts : ∀ w ∈ lw_all, w.before _ s = true := fun w h => hts w (List.mem_cons_of_mem _ h)
  have hown : s.vm.findClass RX1 = some m.cls := findClass_of_methodNamed B.named
  have hlocks := B.notSynchronized
  have hP : va_P (dC, dI) vwCl (mw dA h q mem bs ops tg sr sc cnt sm) s.heap := hP
  have hl := lv_entry ([.ref h, .int p0, .int (nI T), .int (nI i)]) (n := 5) (Nat.le_of_ble_eq_true rfl)
  rw [lg_entry_eq]
  generalize (lg_sl ([.ref h, .int p0, .int (nI T), .int (nI i)]) ++ List.replicate (5 - (lg_sl ([.ref h, .int p0, .int (nI T), .int (nI i)])).length) Slot.unset).toArray = ls at hl ⊢
  have hl : lv_has ls 5 [(0, .ref h), (1, .int p0), (2, .int (nI T)), (3, .int (nI i))] := hl
  refine lv_iconst (v := 0) hx hb dX1_visits_0 (by decide) ?_
  refine lv_istore (lv' := [(4, .int 0), (0, .ref h), (1, .int p0), (2, .int (nI T)), (3, .int (nI i))]) hx hb dX1_visits_1 hl (by decide) rfl (fun ls hl => ?_)
  refine ha_loop (σ := Nat × Array Slot) (fun x => T - x.1) (fun x => (x.1 ≤ T) ∧ (xVis bs p0 (x.1) i = false) ∧ (lv_has x.2 5 [(4, .int (nI (x.1))), (0, .ref h), (1, .int p0), (2, .int (nI T)), (3, .int (nI i))])) (fun x => s.heap) (fun x => []) (fun x => F0 m 3 x.2 []) ?_ (0, ls) ⟨Nat.zero_le _, rfl, lv_sub hl [0, 1, 2, 3, 4] rfl⟩
  rintro ⟨k, ls⟩ ⟨hk, hv, hl⟩ ih
  have hk : k ≤ T := hk
  have hv : xVis bs p0 k i = false := hv
  have hl : lv_has ls 5 [(4, .int (nI k)), (0, .ref h), (1, .int p0), (2, .int (nI T)), (3, .int (nI i))] := hl
  show W p l e _ s m _ below meth c s.heap [] _ _ _ (F0 m 3 ls [])
  refine lv_iload hx hb dX1_visits_3 (lv_at hl 0 rfl) ?_
  refine lv_iload_n hx hb dX1_visits_5 rfl (lv_at hl 3 rfl) ?_
  refine lv_icmp_ge (tgt := 28) hx hb dX1_visits_6 (by decide) (fun c_1 => ?_) (fun c_1 => ?_)
  · have hkT : k = T := by have z := (nI_leI (a := T) (b := k) (by omega) (by omega)).mp c_1; omega
    subst hkT
    refine lv_iconst (v := 0) hx hb dX1_visits_28 (by decide) ?_
    exact W.zret (v := 0) hx hb hr rfl (fun t ht hW => ⟨0, rfl, ⟨fun z => absurd rfl z, fun z => absurd (hv.symm.trans z) (by decide)⟩, ht⟩) (fun _ h => absurd h List.not_mem_nil) dX1_visits_29
  · have hlt : k < T := by rcases Nat.lt_or_ge k T with z | z; exact z; exact absurd (nI_le z (by omega)) c_1
    refine lv_aload_n hx hb dX1_visits_9 rfl (lv_at hl 1 rfl) ?_
    refine lv_iload_n hx hb dX1_visits_10 rfl (lv_at hl 2 rfl) ?_
    refine lv_iload hx hb dX1_visits_11 (lv_at hl 0 rfl) ?_
    refine vp_callSi (W.runV (As := [.int p0, .int (nI k)]) (rest := []) ⟨hx, hb, hml, hown, hts⟩ (metX1_place l dC dI dA h q mem bs ops tg sr sc cnt sm p0 (nI k) hr0) (cwV 2 hts (lw_V q240 q242 qs10 q15 q243) rfl rfl rfl (by decide +kernel) ⟨Nat.le_of_ble_eq_true rfl, Nat.le_of_ble_eq_true rfl⟩) ⟨ha_R_blind, va_recv hK hP (ci := 1) (q0 := 0) rfl rfl, fun U hU hW => ⟨rfl, by rw [hU]; exact hP, va_K.moved hW.alike hK⟩⟩ rfl rfl hl.1 rfl (lv_room (Nat.le_of_ble_eq_true rfl)) dX1_visits_13 ⟨Nat.le_of_ble_eq_true rfl, Nat.le_of_ble_eq_true rfl⟩) (fun r_ hw => ?_)
    have hw : r_ = xCell bs p0 (nI k) := hw
    subst hw
    refine lv_iload_n hx hb dX1_visits_16 rfl (lv_at hl 4 rfl) ?_
    refine lv_icmp_ne (tgt := 22) hx hb dX1_visits_17 (by decide) (fun c_2 => ?_) (fun c_2 => ?_)
    · have hne : ¬ xN bs p0 k = i := fun z => c_2 (by rw [xCell_N, z])
      refine lv_iinc (v := nI (k + 1)) (lv' := [(4, .int (nI (k + 1))), (0, .ref h), (1, .int p0), (2, .int (nI T)), (3, .int (nI i))]) hx hb dX1_visits_22 hl (k := 0) rfl (nI_1 k) (by decide) rfl (fun ls hl => ?_)
      refine lv_goto (tgt := 3) hx hb dX1_visits_25 (by decide) ?_
      exact ih (k + 1, ls) ⟨by omega, by show xVis bs p0 (k + 1) i = false; unfold xVis; rw [hv, Bool.false_or]; exact decide_eq_false hne, lv_sub hl [0, 1, 2, 3, 4] rfl⟩ (by dsimp only; omega)
    · have heq : xN bs p0 k = i := (nI_eq (by have := xN_lt bs p0 k; omega) (by omega)).mp (by rw [← xCell_N]; exact c_2)
      refine lv_iconst (v := 1) hx hb dX1_visits_20 (by decide) ?_
      exact W.zret (v := 1) hx hb hr rfl (fun t ht hW => ⟨1, rfl, ⟨fun _ => xVis_hit hlt heq, fun _ => by decide⟩, ht⟩) (fun _ h => absurd h List.not_mem_nil) dX1_visits_21
set_option maxHeartbeats 4000000 in
set_option maxRecDepth 100000 in
/-- spread -/
theorem metX1_spread (l : Launch) (dC : Nat → ClassId) (dI : Nat → Nat → Nat) (dA : ClassId) (h : Nat) (q : Nat → Nat) (u : ha_U) (p0 : Int32) (p1 : Int32) : Met l yX1_spread (ws_ yX1_spread cX1_spread 5 (some .int)) ({ frames := 2, cells := 0, slots := 0, locals := 49 }) (ha_R dC dI [.ref h, .int p0, .int p1] (mwU dA h q u) (mT dA)) (vp_Si (fun r => r = aSpread u p0 p1)) 0 0 (fun _ => False) := by
  obtain ⟨mem, bs, ops, tg, sr, sc, cnt, sm⟩ := u
  refine Met.ofW (cc := cX1_spread) (maxL := 5) (ret := (some .int)) (by decide) rfl ?_
  intro p e s m args below meth c s₁ B hml hv
  obtain ⟨rfl, hP, hK⟩ := hv
  have hx := B.exec
  have hb := B.bytes
  have hr := B.returns
  have hts := atoms_spec (ws := ws_ yX1_spread cX1_spread 5 (some .int)) B.pre
  have hts : ∀ w ∈ lw_all, w.before _ s = true := fun w h => hts w (List.mem_cons_of_mem _ h)
  have hown : s.vm.findClass RX1 = some m.cls := findClass_of_methodNamed B.named
  have hlocks := B.notSynchronized
  have hP : va_P (dC, dI) vwCl (mw dA h q mem bs ops tg sr sc cnt sm) s.heap := hP
  have hl := lv_entry ([.ref h, .int p0, .int p1]) (n := 5) (Nat.le_of_ble_eq_true rfl)
  rw [lg_entry_eq]
  generalize (lg_sl ([.ref h, .int p0, .int p1]) ++ List.replicate (5 - (lg_sl ([.ref h, .int p0, .int p1])).length) Slot.unset).toArray = ls at hl ⊢
  have hl : lv_has ls 5 [(0, .ref h), (1, .int p0), (2, .int p1)] := hl
  refine lv_aload_n hx hb dX1_spread_0 rfl (lv_at hl 0 rfl) ?_
  refine lv_iload_n hx hb dX1_spread_1 rfl (lv_at hl 1 rfl) ?_
  refine vp_callSi (W.runV (As := [.int p0]) (rest := []) ⟨hx, hb, hml, hown, hts⟩ (metX1_badRef l dC dI dA h q mem bs ops tg sr sc cnt sm p0) (cwV 1 hts (lw_V q216 q218 qs9 q15 q219) rfl rfl rfl (by decide +kernel) ⟨Nat.le_of_ble_eq_true rfl, Nat.le_of_ble_eq_true rfl⟩) ⟨ha_R_blind, va_recv hK hP (ci := 1) (q0 := 0) rfl rfl, fun U hU hW => ⟨rfl, by rw [hU]; exact hP, va_K.moved hW.alike hK⟩⟩ rfl rfl hl.1 rfl (lv_room (Nat.le_of_ble_eq_true rfl)) dX1_spread_2 ⟨Nat.le_of_ble_eq_true rfl, Nat.le_of_ble_eq_true rfl⟩) (fun r_ hw => ?_)
  have hb_1 : ¬ r_ = 0 ↔ ¬ xRef p0 := hw
  clear hw
  generalize r_ = b_1 at hb_1 ⊢
  refine lv_if_eq (tgt := 10) hx hb dX1_spread_5 (by decide) (fun c_2 => ?_) (fun c_2 => ?_)
  · have h2 := Decidable.byContradiction fun z => hb_1.mpr z c_2
    refine lv_iload_n hx hb dX1_spread_10 rfl (lv_at hl 2 rfl) ?_
    refine lv_if_lt (tgt := 20) hx hb dX1_spread_11 (by decide) (fun c_3 => ?_) (fun c_3 => ?_)
    · refine lv_bipush (v := (-2)) hx hb dX1_spread_20 (by decide) ?_
      exact W.iret (v := (-2)) hx hb hr (fun t ht hW => ⟨(-2), rfl, (aSp_2 (u := (mem, bs, ops, tg, sr, sc, cnt, sm)) h2 (Or.inl c_3)).symm, ht⟩) (fun _ h => absurd h List.not_mem_nil) dX1_spread_22
    · refine lv_iload_n hx hb dX1_spread_14 rfl (lv_at hl 2 rfl) ?_
      refine lv_bipush (v := 40) hx hb dX1_spread_15 (by decide) ?_
      refine lv_icmp_le (tgt := 23) hx hb dX1_spread_17 (by decide) (fun c_4 => ?_) (fun c_4 => ?_)
      · have ht2 : ¬ (p1 < 0 ∨ 40 < p1) := fun z => z.elim c_3 (fa_of_le_not c_4)
        obtain ⟨T, hT, eT⟩ := ha_t40 c_3 (fa_of_le_not c_4)
        subst eT
        refine lv_iconst (v := 0) hx hb dX1_spread_23 (by decide) ?_
        refine lv_istore_n (lv' := [(3, .int 0), (0, .ref h), (1, .int p0), (2, .int (nI T))]) hx hb dX1_spread_24 rfl hl (by decide) rfl (fun ls hl => ?_)
        refine lv_iconst (v := 0) hx hb dX1_spread_25 (by decide) ?_
        refine lv_istore (lv' := [(4, .int 0), (3, .int 0), (0, .ref h), (1, .int p0), (2, .int (nI T))]) hx hb dX1_spread_26 hl (by decide) rfl (fun ls hl => ?_)
        refine ha_loop (σ := Nat × Array Slot) (fun x => 64 - x.1) (fun x => (x.1 ≤ 64) ∧ (lv_has x.2 5 [(4, .int (nI (x.1))), (3, .int (nI (xCt (xVis bs p0 T) (x.1)))), (0, .ref h), (1, .int p0), (2, .int (nI T))])) (fun x => s.heap) (fun x => []) (fun x => F0 m 28 x.2 []) ?_ (0, ls) ⟨Nat.zero_le _, lv_sub hl [0, 1, 2, 3, 4] rfl⟩
        rintro ⟨i, ls⟩ ⟨hi, hl⟩ ih
        have hi : i ≤ 64 := hi
        have hl : lv_has ls 5 [(4, .int (nI i)), (3, .int (nI (xCt (xVis bs p0 T) i))), (0, .ref h), (1, .int p0), (2, .int (nI T))] := hl
        show W p l e _ s m _ below meth c s.heap [] _ _ _ (F0 m 28 ls [])
        refine lv_iload hx hb dX1_spread_28 (lv_at hl 0 rfl) ?_
        refine lv_bipush (v := 64) hx hb dX1_spread_30 (by decide) ?_
        refine lv_icmp_ge (tgt := 55) hx hb dX1_spread_32 (by decide) (fun c_5 => ?_) (fun c_5 => ?_)
        · have hi64 : i = 64 := by have z := (nI_leI (a := 64) (b := i) (by decide) (by omega)).mp c_5; omega
          subst hi64
          refine lv_iload_n hx hb dX1_spread_55 rfl (lv_at hl 1 rfl) ?_
          exact W.iret (v := (nI (xCt (xVis bs p0 T) 64))) hx hb hr (fun t ht hW => ⟨(nI (xCt (xVis bs p0 T) 64)), rfl, by rw [aSp_3 (u := (mem, bs, ops, tg, sr, sc, cnt, sm)) h2 ht2, nI_clamp (by omega)], ht⟩) (fun _ h => absurd h List.not_mem_nil) dX1_spread_56
        · have hlt : i < 64 := by rcases Nat.lt_or_ge i 64 with z | z; exact z; exact absurd (nI_le z (by omega)) c_5
          refine lv_aload_n hx hb dX1_spread_35 rfl (lv_at hl 2 rfl) ?_
          refine lv_iload_n hx hb dX1_spread_36 rfl (lv_at hl 3 rfl) ?_
          refine lv_iload_n hx hb dX1_spread_37 rfl (lv_at hl 4 rfl) ?_
          refine lv_iload hx hb dX1_spread_38 (lv_at hl 0 rfl) ?_
          refine vp_callSi (W.runV (As := [.int p0, .int (nI T), .int (nI i)]) (rest := []) ⟨hx, hb, hml, hown, hts⟩ (metX1_visits l dC dI dA h q mem bs ops tg sr sc cnt sm p0 T i hT (by omega) h2) (cwV 3 hts (lw_V q280 q282 qs12 q15 q283) rfl rfl rfl (by decide +kernel) ⟨Nat.le_of_ble_eq_true rfl, Nat.le_of_ble_eq_true rfl⟩) ⟨ha_R_blind, va_recv hK hP (ci := 1) (q0 := 0) rfl rfl, fun U hU hW => ⟨rfl, by rw [hU]; exact hP, va_K.moved hW.alike hK⟩⟩ rfl rfl hl.1 rfl (lv_room (Nat.le_of_ble_eq_true rfl)) dX1_spread_40 ⟨Nat.le_of_ble_eq_true rfl, Nat.le_of_ble_eq_true rfl⟩) (fun r_ hw => ?_)
          have hb_6 : ¬ r_ = 0 ↔ xVis bs p0 T i = true := hw
          clear hw
          generalize r_ = b_6 at hb_6 ⊢
          refine lv_if_eq (tgt := 49) hx hb dX1_spread_43 (by decide) (fun c_7 => ?_) (fun c_7 => ?_)
          · have hvf : xVis bs p0 T i = false := by cases hq : xVis bs p0 T i; rfl; exact absurd c_7 (hb_6.mpr hq)
            refine lv_iinc (v := nI (i + 1)) (lv' := [(4, .int (nI (i + 1))), (3, .int (nI (xCt (xVis bs p0 T) i))), (0, .ref h), (1, .int p0), (2, .int (nI T))]) hx hb dX1_spread_49 hl (k := 0) rfl (nI_1 i) (by decide) rfl (fun ls hl => ?_)
            refine lv_goto (tgt := 28) hx hb dX1_spread_52 (by decide) ?_
            exact ih (i + 1, ls) ⟨by omega, by show lv_has ls 5 [(4, .int (nI (i + 1))), (3, .int (nI (xCt (xVis bs p0 T) (i + 1)))), (0, .ref h), (1, .int p0), (2, .int (nI T))]; rw [xCt_no hvf]; exact lv_sub hl [0, 1, 2, 3, 4] rfl⟩ (by dsimp only; omega)
          · have hvt := hb_6.mp c_7
            refine lv_iinc (v := (nI (xCt (xVis bs p0 T) i)) + 1) (lv' := [(3, .int ((nI (xCt (xVis bs p0 T) i)) + 1)), (4, .int (nI i)), (0, .ref h), (1, .int p0), (2, .int (nI T))]) hx hb dX1_spread_46 hl (k := 1) rfl (rfl) (by decide) rfl (fun ls hl => ?_)
            refine lv_iinc (v := nI (i + 1)) (lv' := [(4, .int (nI (i + 1))), (3, .int ((nI (xCt (xVis bs p0 T) i)) + 1)), (0, .ref h), (1, .int p0), (2, .int (nI T))]) hx hb dX1_spread_49 hl (k := 1) rfl (nI_1 i) (by decide) rfl (fun ls hl => ?_)
            refine lv_goto (tgt := 28) hx hb dX1_spread_52 (by decide) ?_
            exact ih (i + 1, ls) ⟨by omega, by show lv_has ls 5 [(4, .int (nI (i + 1))), (3, .int (nI (xCt (xVis bs p0 T) (i + 1)))), (0, .ref h), (1, .int p0), (2, .int (nI T))]; rw [xCt_yes hvt, ← nI_1 (xCt (xVis bs p0 T) i)]; exact lv_sub hl [0, 1, 2, 3, 4] rfl⟩ (by dsimp only; omega)
      · refine lv_bipush (v := (-2)) hx hb dX1_spread_20 (by decide) ?_
        exact W.iret (v := (-2)) hx hb hr (fun t ht hW => ⟨(-2), rfl, (aSp_2 (u := (mem, bs, ops, tg, sr, sc, cnt, sm)) h2 (Or.inr (fa_of_nle c_4))).symm, ht⟩) (fun _ h => absurd h List.not_mem_nil) dX1_spread_22
  · have h2 := hb_1.mp c_2
    refine lv_iconst (v := (-1)) hx hb dX1_spread_8 (by decide) ?_
    exact W.iret (v := (-1)) hx hb hr (fun t ht hW => ⟨(-1), rfl, (aSp_1 (u := (mem, bs, ops, tg, sr, sc, cnt, sm)) h2).symm, ht⟩) (fun _ h => absurd h List.not_mem_nil) dX1_spread_9
set_option maxHeartbeats 4000000 in
set_option maxRecDepth 100000 in
/-- meet -/
theorem metX1_meet (l : Launch) (dC : Nat → ClassId) (dI : Nat → Nat → Nat) (dA : ClassId) (h : Nat) (q : Nat → Nat) (u : ha_U) (p0 : Int32) (p1 : Int32) (p2 : Int32) : Met l yX1_meet (ws_ yX1_meet cX1_meet 5 (some .int)) ({ frames := 2, cells := 0, slots := 0, locals := 49 }) (ha_R dC dI [.ref h, .int p0, .int p1, .int p2] (mwU dA h q u) (mT dA)) (vp_Si (fun r => r = aMeet u p0 p1 p2)) 0 0 (fun _ => False) := by
  obtain ⟨mem, bs, ops, tg, sr, sc, cnt, sm⟩ := u
  refine Met.ofW (cc := cX1_meet) (maxL := 5) (ret := (some .int)) (by decide) rfl ?_
  intro p e s m args below meth c s₁ B hml hv
  obtain ⟨rfl, hP, hK⟩ := hv
  have hx := B.exec
  have hb := B.bytes
  have hr := B.returns
  have hts := atoms_spec (ws := ws_ yX1_meet cX1_meet 5 (some .int)) B.pre
  have hts : ∀ w ∈ lw_all, w.before _ s = true := fun w h => hts w (List.mem_cons_of_mem _ h)
  have hown : s.vm.findClass RX1 = some m.cls := findClass_of_methodNamed B.named
  have hlocks := B.notSynchronized
  have hP : va_P (dC, dI) vwCl (mw dA h q mem bs ops tg sr sc cnt sm) s.heap := hP
  have hl := lv_entry ([.ref h, .int p0, .int p1, .int p2]) (n := 5) (Nat.le_of_ble_eq_true rfl)
  rw [lg_entry_eq]
  generalize (lg_sl ([.ref h, .int p0, .int p1, .int p2]) ++ List.replicate (5 - (lg_sl ([.ref h, .int p0, .int p1, .int p2])).length) Slot.unset).toArray = ls at hl ⊢
  have hl : lv_has ls 5 [(0, .ref h), (1, .int p0), (2, .int p1), (3, .int p2)] := hl
  refine lv_aload_n hx hb dX1_meet_0 rfl (lv_at hl 0 rfl) ?_
  refine lv_iload_n hx hb dX1_meet_1 rfl (lv_at hl 1 rfl) ?_
  refine vp_callSi (W.runV (As := [.int p0]) (rest := []) ⟨hx, hb, hml, hown, hts⟩ (metX1_badRef l dC dI dA h q mem bs ops tg sr sc cnt sm p0) (cwV 1 hts (lw_V q216 q218 qs9 q15 q219) rfl rfl rfl (by decide +kernel) ⟨Nat.le_of_ble_eq_true rfl, Nat.le_of_ble_eq_true rfl⟩) ⟨ha_R_blind, va_recv hK hP (ci := 1) (q0 := 0) rfl rfl, fun U hU hW => ⟨rfl, by rw [hU]; exact hP, va_K.moved hW.alike hK⟩⟩ rfl rfl hl.1 rfl (lv_room (Nat.le_of_ble_eq_true rfl)) dX1_meet_2 ⟨Nat.le_of_ble_eq_true rfl, Nat.le_of_ble_eq_true rfl⟩) (fun r_ hw => ?_)
  have hb_1 : ¬ r_ = 0 ↔ ¬ xRef p0 := hw
  clear hw
  generalize r_ = b_1 at hb_1 ⊢
  refine lv_if_ne (tgt := 16) hx hb dX1_meet_5 (by decide) (fun c_2 => ?_) (fun c_2 => ?_)
  · have h2 := hb_1.mp c_2
    refine lv_iconst (v := (-1)) hx hb dX1_meet_16 (by decide) ?_
    exact W.iret (v := (-1)) hx hb hr (fun t ht hW => ⟨(-1), rfl, (aMe_1 (u := (mem, bs, ops, tg, sr, sc, cnt, sm)) (Or.inl h2)).symm, ht⟩) (fun _ h => absurd h List.not_mem_nil) dX1_meet_17
  · have h2 := Decidable.byContradiction fun z => hb_1.mpr z c_2
    refine lv_aload_n hx hb dX1_meet_8 rfl (lv_at hl 0 rfl) ?_
    refine lv_iload_n hx hb dX1_meet_9 rfl (lv_at hl 2 rfl) ?_
    refine vp_callSi (W.runV (As := [.int p1]) (rest := []) ⟨hx, hb, hml, hown, hts⟩ (metX1_badRef l dC dI dA h q mem bs ops tg sr sc cnt sm p1) (cwV 1 hts (lw_V q216 q218 qs9 q15 q219) rfl rfl rfl (by decide +kernel) ⟨Nat.le_of_ble_eq_true rfl, Nat.le_of_ble_eq_true rfl⟩) ⟨ha_R_blind, va_recv hK hP (ci := 1) (q0 := 0) rfl rfl, fun U hU hW => ⟨rfl, by rw [hU]; exact hP, va_K.moved hW.alike hK⟩⟩ rfl rfl hl.1 rfl (lv_room (Nat.le_of_ble_eq_true rfl)) dX1_meet_10 ⟨Nat.le_of_ble_eq_true rfl, Nat.le_of_ble_eq_true rfl⟩) (fun r_ hw => ?_)
    have hb_3 : ¬ r_ = 0 ↔ ¬ xRef p1 := hw
    clear hw
    generalize r_ = b_3 at hb_3 ⊢
    refine lv_if_eq (tgt := 18) hx hb dX1_meet_13 (by decide) (fun c_4 => ?_) (fun c_4 => ?_)
    · have h3 := Decidable.byContradiction fun z => hb_3.mpr z c_4
      have hr2 : ¬ (¬ xRef p0 ∨ ¬ xRef p1) := fun z => z.elim (fun y => y h2) (fun y => y h3)
      refine lv_iload_n hx hb dX1_meet_18 rfl (lv_at hl 3 rfl) ?_
      refine lv_if_lt (tgt := 28) hx hb dX1_meet_19 (by decide) (fun c_5 => ?_) (fun c_5 => ?_)
      · refine lv_bipush (v := (-2)) hx hb dX1_meet_28 (by decide) ?_
        exact W.iret (v := (-2)) hx hb hr (fun t ht hW => ⟨(-2), rfl, (aMe_2 (u := (mem, bs, ops, tg, sr, sc, cnt, sm)) hr2 (Or.inl c_5)).symm, ht⟩) (fun _ h => absurd h List.not_mem_nil) dX1_meet_30
      · refine lv_iload_n hx hb dX1_meet_22 rfl (lv_at hl 3 rfl) ?_
        refine lv_bipush (v := 40) hx hb dX1_meet_23 (by decide) ?_
        refine lv_icmp_le (tgt := 31) hx hb dX1_meet_25 (by decide) (fun c_6 => ?_) (fun c_6 => ?_)
        · have ht2 : ¬ (p2 < 0 ∨ 40 < p2) := fun z => z.elim c_5 (fa_of_le_not c_6)
          obtain ⟨T, hT, eT⟩ := ha_t40 c_5 (fa_of_le_not c_6)
          subst eT
          refine lv_iconst (v := 0) hx hb dX1_meet_31 (by decide) ?_
          refine lv_istore (lv' := [(4, .int 0), (0, .ref h), (1, .int p0), (2, .int p1), (3, .int (nI T))]) hx hb dX1_meet_32 hl (by decide) rfl (fun ls hl => ?_)
          refine ha_loop (σ := Nat × Array Slot) (fun x => 64 - x.1) (fun x => (x.1 ≤ 64) ∧ (∀ k, k < x.1 → (xVis bs p0 T k && xVis bs p1 T k) = false) ∧ (lv_has x.2 5 [(4, .int (nI (x.1))), (0, .ref h), (1, .int p0), (2, .int p1), (3, .int (nI T))])) (fun x => s.heap) (fun x => []) (fun x => F0 m 34 x.2 []) ?_ (0, ls) ⟨Nat.zero_le _, lt_0, lv_sub hl [0, 1, 2, 3, 4] rfl⟩
          rintro ⟨i, ls⟩ ⟨hi, hno, hl⟩ ih
          have hi : i ≤ 64 := hi
          have hno : ∀ k, k < i → (xVis bs p0 T k && xVis bs p1 T k) = false := hno
          have hl : lv_has ls 5 [(4, .int (nI i)), (0, .ref h), (1, .int p0), (2, .int p1), (3, .int (nI T))] := hl
          show W p l e _ s m _ below meth c s.heap [] _ _ _ (F0 m 34 ls [])
          refine lv_iload hx hb dX1_meet_34 (lv_at hl 0 rfl) ?_
          refine lv_bipush (v := 64) hx hb dX1_meet_36 (by decide) ?_
          refine lv_icmp_ge (tgt := 71) hx hb dX1_meet_38 (by decide) (fun c_7 => ?_) (fun c_7 => ?_)
          · have hi64 : i = 64 := by have z := (nI_leI (a := 64) (b := i) (by decide) (by omega)).mp c_7; omega
            refine lv_iconst (v := 0) hx hb dX1_meet_71 (by decide) ?_
            exact W.iret (v := 0) hx hb hr (fun t ht hW => ⟨0, rfl, (aMe_3 (u := (mem, bs, ops, tg, sr, sc, cnt, sm)) hr2 ht2 (by rw [nI_clamp (by omega)]; exact xCt_0 64 (fun k hk => hno k (by omega)))).symm, ht⟩) (fun _ h => absurd h List.not_mem_nil) dX1_meet_72
          · have hlt : i < 64 := by rcases Nat.lt_or_ge i 64 with z | z; exact z; exact absurd (nI_le z (by omega)) c_7
            refine lv_aload_n hx hb dX1_meet_41 rfl (lv_at hl 1 rfl) ?_
            refine lv_iload_n hx hb dX1_meet_42 rfl (lv_at hl 2 rfl) ?_
            refine lv_iload_n hx hb dX1_meet_43 rfl (lv_at hl 4 rfl) ?_
            refine lv_iload hx hb dX1_meet_44 (lv_at hl 0 rfl) ?_
            refine vp_callSi (W.runV (As := [.int p0, .int (nI T), .int (nI i)]) (rest := []) ⟨hx, hb, hml, hown, hts⟩ (metX1_visits l dC dI dA h q mem bs ops tg sr sc cnt sm p0 T i hT (by omega) h2) (cwV 3 hts (lw_V q280 q282 qs12 q15 q283) rfl rfl rfl (by decide +kernel) ⟨Nat.le_of_ble_eq_true rfl, Nat.le_of_ble_eq_true rfl⟩) ⟨ha_R_blind, va_recv hK hP (ci := 1) (q0 := 0) rfl rfl, fun U hU hW => ⟨rfl, by rw [hU]; exact hP, va_K.moved hW.alike hK⟩⟩ rfl rfl hl.1 rfl (lv_room (Nat.le_of_ble_eq_true rfl)) dX1_meet_46 ⟨Nat.le_of_ble_eq_true rfl, Nat.le_of_ble_eq_true rfl⟩) (fun r_ hw => ?_)
            have hb_8 : ¬ r_ = 0 ↔ xVis bs p0 T i = true := hw
            clear hw
            generalize r_ = b_8 at hb_8 ⊢
            refine lv_if_eq (tgt := 65) hx hb dX1_meet_49 (by decide) (fun c_9 => ?_) (fun c_9 => ?_)
            · have hv0 : xVis bs p0 T i = false := by cases hq : xVis bs p0 T i; rfl; exact absurd c_9 (hb_8.mpr hq)
              refine lv_iinc (v := nI (i + 1)) (lv' := [(4, .int (nI (i + 1))), (0, .ref h), (1, .int p0), (2, .int p1), (3, .int (nI T))]) hx hb dX1_meet_65 hl (k := 0) rfl (nI_1 i) (by decide) rfl (fun ls hl => ?_)
              refine lv_goto (tgt := 34) hx hb dX1_meet_68 (by decide) ?_
              exact ih (i + 1, ls) ⟨by omega, lt_s hno (by rw [hv0, Bool.false_and]), lv_sub hl [0, 1, 2, 3, 4] rfl⟩ (by dsimp only; omega)
            · have hv0 := hb_8.mp c_9
              refine lv_aload_n hx hb dX1_meet_52 rfl (lv_at hl 1 rfl) ?_
              refine lv_iload_n hx hb dX1_meet_53 rfl (lv_at hl 3 rfl) ?_
              refine lv_iload_n hx hb dX1_meet_54 rfl (lv_at hl 4 rfl) ?_
              refine lv_iload hx hb dX1_meet_55 (lv_at hl 0 rfl) ?_
              refine vp_callSi (W.runV (As := [.int p1, .int (nI T), .int (nI i)]) (rest := []) ⟨hx, hb, hml, hown, hts⟩ (metX1_visits l dC dI dA h q mem bs ops tg sr sc cnt sm p1 T i hT (by omega) h3) (cwV 3 hts (lw_V q280 q282 qs12 q15 q283) rfl rfl rfl (by decide +kernel) ⟨Nat.le_of_ble_eq_true rfl, Nat.le_of_ble_eq_true rfl⟩) ⟨ha_R_blind, va_recv hK hP (ci := 1) (q0 := 0) rfl rfl, fun U hU hW => ⟨rfl, by rw [hU]; exact hP, va_K.moved hW.alike hK⟩⟩ rfl rfl hl.1 rfl (lv_room (Nat.le_of_ble_eq_true rfl)) dX1_meet_57 ⟨Nat.le_of_ble_eq_true rfl, Nat.le_of_ble_eq_true rfl⟩) (fun r_ hw => ?_)
              have hb_10 : ¬ r_ = 0 ↔ xVis bs p1 T i = true := hw
              clear hw
              generalize r_ = b_10 at hb_10 ⊢
              refine lv_if_eq (tgt := 65) hx hb dX1_meet_60 (by decide) (fun c_11 => ?_) (fun c_11 => ?_)
              · have hv1 : xVis bs p1 T i = false := by cases hq : xVis bs p1 T i; rfl; exact absurd c_11 (hb_10.mpr hq)
                refine lv_iinc (v := nI (i + 1)) (lv' := [(4, .int (nI (i + 1))), (0, .ref h), (1, .int p0), (2, .int p1), (3, .int (nI T))]) hx hb dX1_meet_65 hl (k := 0) rfl (nI_1 i) (by decide) rfl (fun ls hl => ?_)
                refine lv_goto (tgt := 34) hx hb dX1_meet_68 (by decide) ?_
                exact ih (i + 1, ls) ⟨by omega, lt_s hno (by rw [hv1, Bool.and_false]), lv_sub hl [0, 1, 2, 3, 4] rfl⟩ (by dsimp only; omega)
              · have hv1 := hb_10.mp c_11
                refine lv_iconst (v := 1) hx hb dX1_meet_63 (by decide) ?_
                exact W.iret (v := 1) hx hb hr (fun t ht hW => ⟨1, rfl, (aMe_4 (u := (mem, bs, ops, tg, sr, sc, cnt, sm)) hr2 ht2 (by rw [nI_clamp (by omega)]; exact xCt_pos (k := i) (by show (xVis bs p0 T i && xVis bs p1 T i) = true; rw [hv0, hv1]; rfl) 64 hlt)).symm, ht⟩) (fun _ h => absurd h List.not_mem_nil) dX1_meet_64
        · refine lv_bipush (v := (-2)) hx hb dX1_meet_28 (by decide) ?_
          exact W.iret (v := (-2)) hx hb hr (fun t ht hW => ⟨(-2), rfl, (aMe_2 (u := (mem, bs, ops, tg, sr, sc, cnt, sm)) hr2 (Or.inr (fa_of_nle c_6))).symm, ht⟩) (fun _ h => absurd h List.not_mem_nil) dX1_meet_30
    · have h3 := hb_3.mp c_4
      refine lv_iconst (v := (-1)) hx hb dX1_meet_16 (by decide) ?_
      exact W.iret (v := (-1)) hx hb hr (fun t ht hW => ⟨(-1), rfl, (aMe_1 (u := (mem, bs, ops, tg, sr, sc, cnt, sm)) (Or.inr h3)).symm, ht⟩) (fun _ h => absurd h List.not_mem_nil) dX1_meet_17
end
section
section XV
variable {bs ops tg sr sc mem : ha_F} {k i : Nat}
theorem xVal_0 (h : ops k = 0) : mem (xN bs (sr k) i) = xVal bs ops sr sc mem k i := (xRes_a h).symm
theorem xVal_5 (h : ops k = 5) : mem (xN bs (sr k) i) + sc k = xVal bs ops sr sc mem k i := by
  unfold xVal
  rw [xW_no (by rw [h]; decide), xRes_b (by rw [h]; decide) (Or.inr h)]
theorem xVal_7 (h : ops k = 7) : sc k + nI i = xVal bs ops sr sc mem k i := by
  unfold xVal
  rw [xW_no (by rw [h]; decide), h]
  rfl
theorem xVal_1 (h : ops k = 1) : mem (xN bs (sr k) i) + mem (xN bs (sc k) i) = xVal bs ops sr sc mem k i := by
  unfold xVal
  rw [xW_two (by rw [h]; decide), xRes_b (by rw [h]; decide) (Or.inl h)]
theorem xVal_2 (h : ops k = 2) : mem (xN bs (sr k) i) - mem (xN bs (sc k) i) = xVal bs ops sr sc mem k i := by
  unfold xVal
  rw [xW_two (by rw [h]; decide), h]
  rfl
theorem xVal_3 (h : ops k = 3) : mem (xN bs (sr k) i) * mem (xN bs (sc k) i) = xVal bs ops sr sc mem k i := by
  unfold xVal
  rw [xW_two (by rw [h]; decide), h]
  rfl
theorem xVal_4 (h : ops k = 4) : mem (xN bs (sr k) i) ^^^ mem (xN bs (sc k) i) = xVal bs ops sr sc mem k i := by
  unfold xVal
  rw [xW_two (by rw [h]; decide), h]
  rfl
theorem xTwo_of {x : Int32} (h0 : ¬ x < 0) (h7 : ¬ 7 < x) (n0 : ¬ x = 0) (n5 : ¬ x = 5) (n6 : ¬ x = 6) (n7 : ¬ x = 7) : xTwo x := by
  rw [fa_eq] at n0 n5 n6 n7
  rw [fa_lt] at h0 h7
  show ¬ x < 1 ∧ ¬ (4 : Int32) < x
  rw [fa_lt, fa_lt]
  rw [show (0 : Int32).toInt = 0 from rfl] at *
  rw [show (7 : Int32).toInt = 7 from rfl] at *
  rw [show (5 : Int32).toInt = 5 from rfl] at n5
  rw [show (6 : Int32).toInt = 6 from rfl] at n6
  rw [show (1 : Int32).toInt = 1 from rfl, show (4 : Int32).toInt = 4 from rfl]
  omega
theorem xOp4 {x : Int32} (h : xTwo x) (n1 : ¬ x = 1) (n2 : ¬ x = 2) (n3 : ¬ x = 3) : x = 4 := by
  have h : ¬ x < 1 ∧ ¬ (4 : Int32) < x := h
  rw [fa_lt, fa_lt, show (1 : Int32).toInt = 1 from rfl, show (4 : Int32).toInt = 4 from rfl] at h
  rw [fa_eq, show (1 : Int32).toInt = 1 from rfl] at n1
  rw [fa_eq, show (2 : Int32).toInt = 2 from rfl] at n2
  rw [fa_eq, show (3 : Int32).toInt = 3 from rfl] at n3
  rw [fa_eq, show (4 : Int32).toInt = 4 from rfl]
  omega
theorem xFd_s (a : ha_F × Int32) : ha_fold (fun k => st1 bs ops tg sr sc k i) (k + 1) a = st1 bs ops tg sr sc k i (ha_fold (fun k => st1 bs ops tg sr sc k i) k a) := rfl
end XV
set_option maxHeartbeats 4000000 in
set_option maxRecDepth 100000 in
/-- result: what statement k stores in round i -/
theorem metX1_result (l : Launch) (dC : Nat → ClassId) (dI : Nat → Nat → Nat) (dA : ClassId) (h : Nat) (q : Nat → Nat) (mem bs ops tg sr sc : ha_F) (cnt sm : Int32) (k i : Nat) (hk : k < 5) (hr0 : xRef (sr k)) (h0 : ¬ ops k < 0) (h7 : ¬ 7 < ops k) (h6 : ¬ ops k = 6) (h2 : xTwo (ops k) → xRef (sc k)) : Met l yX1_result (ws_ yX1_result cX1_result 6 (some .int)) ({ frames := 1, cells := 0, slots := 0, locals := 25 }) (ha_R dC dI [.ref h, .int (nI k), .int (nI i)] (mw dA h q mem bs ops tg sr sc cnt sm) (mT dA)) (vp_Si (fun r => r = xVal bs ops sr sc mem k i)) 0 0 (fun _ => False) := by
  refine Met.ofW (cc := cX1_result) (maxL := 6) (ret := (some .int)) (by decide) rfl ?_
  intro p e s m args below meth c s₁ B hml hv
  obtain ⟨rfl, hP, hK⟩ := hv
  have hx := B.exec
  have hb := B.bytes
  have hr := B.returns
  have hts := atoms_spec (ws := ws_ yX1_result cX1_result 6 (some .int)) B.pre
  have hts : ∀ w ∈ lw_all, w.before _ s = true := fun w h => hts w (List.mem_cons_of_mem _ h)
  have hown : s.vm.findClass RX1 = some m.cls := findClass_of_methodNamed B.named
  have hlocks := B.notSynchronized
  have hP : va_P (dC, dI) vwCl (mw dA h q mem bs ops tg sr sc cnt sm) s.heap := hP
  have hl := lv_entry ([.ref h, .int (nI k), .int (nI i)]) (n := 6) (Nat.le_of_ble_eq_true rfl)
  rw [lg_entry_eq]
  generalize (lg_sl ([.ref h, .int (nI k), .int (nI i)]) ++ List.replicate (6 - (lg_sl ([.ref h, .int (nI k), .int (nI i)])).length) Slot.unset).toArray = ls at hl ⊢
  have hl : lv_has ls 6 [(0, .ref h), (1, .int (nI k)), (2, .int (nI i))] := hl
  refine lv_aload_n hx hb dX1_result_0 rfl (lv_at hl 0 rfl) ?_
  refine va_get (D := (dC, dI)) (ci := 1) (v := .ref (q 0)) (C := RX1) (T := TX1) (N := 8) hx hb hts in_X1 hown hK hP 0 rfl rfl 0 (by decide) (hts _ q187) (fun _ h9 => h9) rfl dX1_result_1 ?_
  refine lv_aload_n hx hb dX1_result_4 rfl (lv_at hl 0 rfl) ?_
  refine lv_aload_n hx hb dX1_result_5 rfl (lv_at hl 0 rfl) ?_
  refine va_get (D := (dC, dI)) (ci := 1) (v := .ref (q 4)) (C := RX1) (T := TX1) (N := 8) hx hb hts in_X1 hown hK hP 0 rfl rfl 6 (by decide) (hts _ q193) (fun _ h9 => h9) rfl dX1_result_6 ?_
  refine lv_iload_n hx hb dX1_result_9 rfl (lv_at hl 1 rfl) ?_
  refine ha_ld hx hb hK hP 5 0 rfl rfl k (rfl) (hk) (by decide) dX1_result_10 ?_
  refine lv_iload_n hx hb dX1_result_11 rfl (lv_at hl 2 rfl) ?_
  refine vp_callSi (W.runV (As := [.int (sr k), .int (nI i)]) (rest := [.ref (q 0)]) ⟨hx, hb, hml, hown, hts⟩ (metX1_place l dC dI dA h q mem bs ops tg sr sc cnt sm (sr k) (nI i) hr0) (cwV 2 hts (lw_V q240 q242 qs10 q15 q243) rfl rfl rfl (by decide +kernel) ⟨Nat.le_of_ble_eq_true rfl, Nat.le_of_ble_eq_true rfl⟩) ⟨ha_R_blind, va_recv hK hP (ci := 1) (q0 := 0) rfl rfl, fun U hU hW => ⟨rfl, by rw [hU]; exact hP, va_K.moved hW.alike hK⟩⟩ rfl rfl hl.1 rfl (lv_room (Nat.le_of_ble_eq_true rfl)) dX1_result_12 ⟨Nat.le_of_ble_eq_true rfl, Nat.le_of_ble_eq_true rfl⟩) (fun r_ hw => ?_)
  have hw : r_ = xCell bs (sr k) (nI i) := hw
  subst hw
  refine va_iald hx hb hK hP 1 0 rfl rfl (xCell_in _ _ _) dX1_result_15 ?_
  refine lv_istore_n (lv' := [(3, .int (mem (xCell bs (sr k) (nI i)).toNatClampNeg)), (0, .ref h), (1, .int (nI k)), (2, .int (nI i))]) hx hb dX1_result_16 rfl hl (by decide) rfl (fun ls hl => ?_)
  refine lv_aload_n hx hb dX1_result_17 rfl (lv_at hl 1 rfl) ?_
  refine va_get (D := (dC, dI)) (ci := 1) (v := .ref (q 5)) (C := RX1) (T := TX1) (N := 8) hx hb hts in_X1 hown hK hP 0 rfl rfl 7 (by decide) (hts _ q194) (fun _ h9 => h9) rfl dX1_result_18 ?_
  refine lv_iload_n hx hb dX1_result_21 rfl (lv_at hl 2 rfl) ?_
  refine ha_ld hx hb hK hP 6 0 rfl rfl k (rfl) (hk) (by decide) dX1_result_22 ?_
  refine lv_istore (lv' := [(4, .int (sc k)), (3, .int (mem (xCell bs (sr k) (nI i)).toNatClampNeg)), (0, .ref h), (1, .int (nI k)), (2, .int (nI i))]) hx hb dX1_result_23 hl (by decide) rfl (fun ls hl => ?_)
  refine lv_aload_n hx hb dX1_result_25 rfl (lv_at hl 2 rfl) ?_
  refine va_get (D := (dC, dI)) (ci := 1) (v := .ref (q 2)) (C := RX1) (T := TX1) (N := 8) hx hb hts in_X1 hown hK hP 0 rfl rfl 4 (by decide) (hts _ q191) (fun _ h9 => h9) rfl dX1_result_26 ?_
  refine lv_iload_n hx hb dX1_result_29 rfl (lv_at hl 3 rfl) ?_
  refine ha_ld hx hb hK hP 3 0 rfl rfl k (rfl) (hk) (by decide) dX1_result_30 ?_
  refine lv_if_ne (tgt := 36) hx hb dX1_result_31 (by decide) (fun c_1 => ?_) (fun c_1 => ?_)
  · refine lv_aload_n hx hb dX1_result_36 rfl (lv_at hl 2 rfl) ?_
    refine va_get (D := (dC, dI)) (ci := 1) (v := .ref (q 2)) (C := RX1) (T := TX1) (N := 8) hx hb hts in_X1 hown hK hP 0 rfl rfl 4 (by decide) (hts _ q191) (fun _ h9 => h9) rfl dX1_result_37 ?_
    refine lv_iload_n hx hb dX1_result_40 rfl (lv_at hl 3 rfl) ?_
    refine ha_ld hx hb hK hP 3 0 rfl rfl k (rfl) (hk) (by decide) dX1_result_41 ?_
    refine lv_iconst (v := 5) hx hb dX1_result_42 (by decide) ?_
    refine lv_icmp_ne (tgt := 51) hx hb dX1_result_43 (by decide) (fun c_2 => ?_) (fun c_2 => ?_)
    · refine lv_aload_n hx hb dX1_result_51 rfl (lv_at hl 2 rfl) ?_
      refine va_get (D := (dC, dI)) (ci := 1) (v := .ref (q 2)) (C := RX1) (T := TX1) (N := 8) hx hb hts in_X1 hown hK hP 0 rfl rfl 4 (by decide) (hts _ q191) (fun _ h9 => h9) rfl dX1_result_52 ?_
      refine lv_iload_n hx hb dX1_result_55 rfl (lv_at hl 3 rfl) ?_
      refine ha_ld hx hb hK hP 3 0 rfl rfl k (rfl) (hk) (by decide) dX1_result_56 ?_
      refine lv_bipush (v := 7) hx hb dX1_result_57 (by decide) ?_
      refine lv_icmp_ne (tgt := 67) hx hb dX1_result_59 (by decide) (fun c_3 => ?_) (fun c_3 => ?_)
      · refine lv_aload_n hx hb dX1_result_67 rfl (lv_at hl 2 rfl) ?_
        refine va_get (D := (dC, dI)) (ci := 1) (v := .ref (q 0)) (C := RX1) (T := TX1) (N := 8) hx hb hts in_X1 hown hK hP 0 rfl rfl 0 (by decide) (hts _ q187) (fun _ h9 => h9) rfl dX1_result_68 ?_
        refine lv_aload_n hx hb dX1_result_71 rfl (lv_at hl 2 rfl) ?_
        refine lv_iload hx hb dX1_result_72 (lv_at hl 0 rfl) ?_
        refine lv_sipush (v := 511) hx hb dX1_result_74 (by decide) ?_
        refine lv_iand hx hb dX1_result_77 ?_
        refine lv_iload_n hx hb dX1_result_78 rfl (lv_at hl 4 rfl) ?_
        have hy2 : xTwo (ops k) := xTwo_of h0 h7 c_1 c_2 h6 c_3
        rw [ha_and511 (h2 hy2)]
        refine vp_callSi (W.runV (As := [.int (sc k), .int (nI i)]) (rest := [.ref (q 0)]) ⟨hx, hb, hml, hown, hts⟩ (metX1_place l dC dI dA h q mem bs ops tg sr sc cnt sm (sc k) (nI i) (h2 hy2)) (cwV 2 hts (lw_V q240 q242 qs10 q15 q243) rfl rfl rfl (by decide +kernel) ⟨Nat.le_of_ble_eq_true rfl, Nat.le_of_ble_eq_true rfl⟩) ⟨ha_R_blind, va_recv hK hP (ci := 1) (q0 := 0) rfl rfl, fun U hU hW => ⟨rfl, by rw [hU]; exact hP, va_K.moved hW.alike hK⟩⟩ rfl rfl hl.1 rfl (lv_room (Nat.le_of_ble_eq_true rfl)) dX1_result_79 ⟨Nat.le_of_ble_eq_true rfl, Nat.le_of_ble_eq_true rfl⟩) (fun r_ hw => ?_)
        have hw : r_ = xCell bs (sc k) (nI i) := hw
        subst hw
        refine va_iald hx hb hK hP 1 0 rfl rfl (xCell_in _ _ _) dX1_result_82 ?_
        refine lv_istore (lv' := [(5, .int (mem (xCell bs (sc k) (nI i)).toNatClampNeg)), (4, .int (sc k)), (3, .int (mem (xCell bs (sr k) (nI i)).toNatClampNeg)), (0, .ref h), (1, .int (nI k)), (2, .int (nI i))]) hx hb dX1_result_83 hl (by decide) rfl (fun ls hl => ?_)
        refine lv_aload_n hx hb dX1_result_85 rfl (lv_at hl 3 rfl) ?_
        refine va_get (D := (dC, dI)) (ci := 1) (v := .ref (q 2)) (C := RX1) (T := TX1) (N := 8) hx hb hts in_X1 hown hK hP 0 rfl rfl 4 (by decide) (hts _ q191) (fun _ h9 => h9) rfl dX1_result_86 ?_
        refine lv_iload_n hx hb dX1_result_89 rfl (lv_at hl 4 rfl) ?_
        refine ha_ld hx hb hK hP 3 0 rfl rfl k (rfl) (hk) (by decide) dX1_result_90 ?_
        refine lv_iconst (v := 1) hx hb dX1_result_91 (by decide) ?_
        refine lv_icmp_ne (tgt := 100) hx hb dX1_result_92 (by decide) (fun c_4 => ?_) (fun c_4 => ?_)
        · refine lv_aload_n hx hb dX1_result_100 rfl (lv_at hl 3 rfl) ?_
          refine va_get (D := (dC, dI)) (ci := 1) (v := .ref (q 2)) (C := RX1) (T := TX1) (N := 8) hx hb hts in_X1 hown hK hP 0 rfl rfl 4 (by decide) (hts _ q191) (fun _ h9 => h9) rfl dX1_result_101 ?_
          refine lv_iload_n hx hb dX1_result_104 rfl (lv_at hl 4 rfl) ?_
          refine ha_ld hx hb hK hP 3 0 rfl rfl k (rfl) (hk) (by decide) dX1_result_105 ?_
          refine lv_iconst (v := 2) hx hb dX1_result_106 (by decide) ?_
          refine lv_icmp_ne (tgt := 115) hx hb dX1_result_107 (by decide) (fun c_5 => ?_) (fun c_5 => ?_)
          · refine lv_aload_n hx hb dX1_result_115 rfl (lv_at hl 3 rfl) ?_
            refine va_get (D := (dC, dI)) (ci := 1) (v := .ref (q 2)) (C := RX1) (T := TX1) (N := 8) hx hb hts in_X1 hown hK hP 0 rfl rfl 4 (by decide) (hts _ q191) (fun _ h9 => h9) rfl dX1_result_116 ?_
            refine lv_iload_n hx hb dX1_result_119 rfl (lv_at hl 4 rfl) ?_
            refine ha_ld hx hb hK hP 3 0 rfl rfl k (rfl) (hk) (by decide) dX1_result_120 ?_
            refine lv_iconst (v := 3) hx hb dX1_result_121 (by decide) ?_
            refine lv_icmp_ne (tgt := 132) hx hb dX1_result_122 (by decide) (fun c_6 => ?_) (fun c_6 => ?_)
            · refine lv_iload_n hx hb dX1_result_132 rfl (lv_at hl 2 rfl) ?_
              refine lv_iload hx hb dX1_result_133 (lv_at hl 0 rfl) ?_
              refine lv_ixor hx hb dX1_result_135 ?_
              exact W.iret (v := ((mem (xCell bs (sr k) (nI i)).toNatClampNeg) ^^^ (mem (xCell bs (sc k) (nI i)).toNatClampNeg))) hx hb hr (fun t ht hW => ⟨((mem (xCell bs (sr k) (nI i)).toNatClampNeg) ^^^ (mem (xCell bs (sc k) (nI i)).toNatClampNeg)), rfl, xVal_4 (xOp4 hy2 c_4 c_5 c_6), ht⟩) (fun _ h => absurd h List.not_mem_nil) dX1_result_136
            · refine lv_iload_n hx hb dX1_result_125 rfl (lv_at hl 2 rfl) ?_
              refine lv_iload hx hb dX1_result_126 (lv_at hl 0 rfl) ?_
              refine lv_imul hx hb dX1_result_128 ?_
              refine lv_goto (tgt := 136) hx hb dX1_result_129 (by decide) ?_
              exact W.iret (v := ((mem (xCell bs (sr k) (nI i)).toNatClampNeg) * (mem (xCell bs (sc k) (nI i)).toNatClampNeg))) hx hb hr (fun t ht hW => ⟨((mem (xCell bs (sr k) (nI i)).toNatClampNeg) * (mem (xCell bs (sc k) (nI i)).toNatClampNeg)), rfl, xVal_3 c_6, ht⟩) (fun _ h => absurd h List.not_mem_nil) dX1_result_136
          · refine lv_iload_n hx hb dX1_result_110 rfl (lv_at hl 2 rfl) ?_
            refine lv_iload hx hb dX1_result_111 (lv_at hl 0 rfl) ?_
            refine lv_isub hx hb dX1_result_113 ?_
            exact W.iret (v := ((mem (xCell bs (sr k) (nI i)).toNatClampNeg) - (mem (xCell bs (sc k) (nI i)).toNatClampNeg))) hx hb hr (fun t ht hW => ⟨((mem (xCell bs (sr k) (nI i)).toNatClampNeg) - (mem (xCell bs (sc k) (nI i)).toNatClampNeg)), rfl, xVal_2 c_5, ht⟩) (fun _ h => absurd h List.not_mem_nil) dX1_result_114
        · refine lv_iload_n hx hb dX1_result_95 rfl (lv_at hl 2 rfl) ?_
          refine lv_iload hx hb dX1_result_96 (lv_at hl 0 rfl) ?_
          refine lv_iadd hx hb dX1_result_98 ?_
          exact W.iret (v := ((mem (xCell bs (sr k) (nI i)).toNatClampNeg) + (mem (xCell bs (sc k) (nI i)).toNatClampNeg))) hx hb hr (fun t ht hW => ⟨((mem (xCell bs (sr k) (nI i)).toNatClampNeg) + (mem (xCell bs (sc k) (nI i)).toNatClampNeg)), rfl, xVal_1 c_4, ht⟩) (fun _ h => absurd h List.not_mem_nil) dX1_result_99
      · refine lv_iload hx hb dX1_result_62 (lv_at hl 0 rfl) ?_
        refine lv_iload_n hx hb dX1_result_64 rfl (lv_at hl 4 rfl) ?_
        refine lv_iadd hx hb dX1_result_65 ?_
        exact W.iret (v := ((sc k) + (nI i))) hx hb hr (fun t ht hW => ⟨((sc k) + (nI i)), rfl, xVal_7 c_3, ht⟩) (fun _ h => absurd h List.not_mem_nil) dX1_result_66
    · refine lv_iload_n hx hb dX1_result_46 rfl (lv_at hl 1 rfl) ?_
      refine lv_iload hx hb dX1_result_47 (lv_at hl 0 rfl) ?_
      refine lv_iadd hx hb dX1_result_49 ?_
      exact W.iret (v := ((mem (xCell bs (sr k) (nI i)).toNatClampNeg) + (sc k))) hx hb hr (fun t ht hW => ⟨((mem (xCell bs (sr k) (nI i)).toNatClampNeg) + (sc k)), rfl, xVal_5 c_2, ht⟩) (fun _ h => absurd h List.not_mem_nil) dX1_result_50
  · refine lv_iload_n hx hb dX1_result_34 rfl (lv_at hl 1 rfl) ?_
    exact W.iret (v := (mem (xCell bs (sr k) (nI i)).toNatClampNeg)) hx hb hr (fun t ht hW => ⟨(mem (xCell bs (sr k) (nI i)).toNatClampNeg), rfl, xVal_0 c_1, ht⟩) (fun _ h => absurd h List.not_mem_nil) dX1_result_35
set_option maxHeartbeats 4000000 in
set_option maxRecDepth 100000 in
/-- run: T rounds as they are written -/
theorem metX1_run (l : Launch) (dC : Nat → ClassId) (dI : Nat → Nat → Nat) (dA : ClassId) (h : Nat) (q : Nat → Nat) (u : ha_U) (sz : Nat) (p0 : Int32) (hI : aInv u) : Met l yX1_run (ws_ yX1_run cX1_run 5 (some .int)) ({ frames := 2, cells := 0, slots := 0, locals := 50 }) (ha_M dC dI [.ref h, .int p0] sz (mwU dA h q u) (mT dA)) (va_Qi (S := ha_U) (fun (r : Int32) (y : ha_U) => (r, y) = aRun u p0) (fun y t => ha_B dC dI (va_A (mwU dA h q u) sz) (mwU dA h q y) (mT dA) t) (va_A (mwU dA h q u) sz)) 0 0 (va_A (mwU dA h q u) sz) := by
  obtain ⟨mem, bs, ops, tg, sr, sc, cnt, sm⟩ := u
  obtain ⟨n, hn, hcnt, hst, hbs⟩ := hI
  have hcnt : cnt = nI n := hcnt
  subst hcnt
  have hst : ∀ k, k < n → ¬ ops k < 0 ∧ ¬ 7 < ops k ∧ xRef (tg k) ∧ xRef (sr k) ∧ (xTwo (ops k) → xRef (sc k)) := hst
  have hbs : ∀ r, r < 4 → ¬ bs r < 0 ∧ bs r < 64 := hbs
  refine Met.ofW (cc := cX1_run) (maxL := 5) (ret := (some .int)) (by decide) rfl ?_
  intro p e s m args below meth c s₁ B hml hv
  obtain ⟨rfl, hsz, hP, hK, hD0⟩ := hv
  have hx := B.exec
  have hb := B.bytes
  have hr := B.returns
  have hts := atoms_spec (ws := ws_ yX1_run cX1_run 5 (some .int)) B.pre
  have hts : ∀ w ∈ lw_all, w.before _ s = true := fun w h => hts w (List.mem_cons_of_mem _ h)
  have hown : s.vm.findClass RX1 = some m.cls := findClass_of_methodNamed B.named
  have hlocks := B.notSynchronized
  subst hsz
  have hD := hD0.self (sz := s.heap.size)
  generalize hAe : va_A (mwU dA h q (mem, bs, ops, tg, sr, sc, nI n, sm)) s.heap.size = A at hD ⊢
  have hA : ∀ q : Nat, s.heap.size ≤ q → A q := fun q h => by rw [← hAe]; exact Or.inr h
  have hS : va_S A s.heap s.heap [] := va_S.rf
  have hD : va_D A (mw dA h q mem bs ops tg sr sc (nI n) sm) := hD
  have hP : va_P (dC, dI) vwCl (mw dA h q mem bs ops tg sr sc (nI n) sm) s.heap := hP
  have hl := lv_entry ([.ref h, .int p0]) (n := 5) (Nat.le_of_ble_eq_true rfl)
  rw [lg_entry_eq]
  generalize (lg_sl ([.ref h, .int p0]) ++ List.replicate (5 - (lg_sl ([.ref h, .int p0])).length) Slot.unset).toArray = ls at hl ⊢
  have hl : lv_has ls 5 [(0, .ref h), (1, .int p0)] := hl
  refine lv_iload_n hx hb dX1_run_0 rfl (lv_at hl 1 rfl) ?_
  refine lv_if_lt (tgt := 10) hx hb dX1_run_1 (by decide) (fun c_1 => ?_) (fun c_1 => ?_)
  · refine lv_iconst (v := (-1)) hx hb dX1_run_10 (by decide) ?_
    exact W.iret (v := (-1)) hx hb hr (fun t ht hW => ⟨⟨(-1), (mem, bs, ops, tg, sr, sc, (nI n), sm), rfl, (aRu_1 (u := (mem, bs, ops, tg, sr, sc, nI n, sm)) (Or.inl c_1)).symm, by rw [ht]; exact hP, va_K.moved hW.alike hK, hD⟩, hS.F ht⟩) hS.2.2 dX1_run_11
  · refine lv_iload_n hx hb dX1_run_4 rfl (lv_at hl 1 rfl) ?_
    refine lv_bipush (v := 40) hx hb dX1_run_5 (by decide) ?_
    refine lv_icmp_le (tgt := 12) hx hb dX1_run_7 (by decide) (fun c_2 => ?_) (fun c_2 => ?_)
    · have hg : ¬ (p0 < 0 ∨ 40 < p0) := fun z => z.elim c_1 (fa_of_le_not c_2)
      obtain ⟨T, hT2, eT⟩ := ha_t40 c_1 (fa_of_le_not c_2)
      subst eT
      refine lv_iconst (v := 0) hx hb dX1_run_12 (by decide) ?_
      refine lv_istore_n (lv' := [(2, .int 0), (0, .ref h), (1, .int (nI T))]) hx hb dX1_run_13 rfl hl (by decide) rfl (fun ls hl => ?_)
      refine ha_loop (σ := Nat × Heap × List Loc × Array Slot) (fun x => T - x.1) (fun x => (x.1 ≤ T) ∧ (va_P (dC, dI) vwCl (mw dA h q ((xRn bs ops tg sr sc n (x.1) (mem, sm)).1) bs ops tg sr sc (nI n) ((xRn bs ops tg sr sc n (x.1) (mem, sm)).2)) x.2.1) ∧ (va_D A (mw dA h q ((xRn bs ops tg sr sc n (x.1) (mem, sm)).1) bs ops tg sr sc (nI n) ((xRn bs ops tg sr sc n (x.1) (mem, sm)).2))) ∧ (va_S A s.heap x.2.1 x.2.2.1) ∧ (lv_has x.2.2.2 5 [(2, .int (nI (x.1))), (0, .ref h), (1, .int (nI T))])) (fun x => x.2.1) (fun x => x.2.2.1) (fun x => F0 m 14 x.2.2.2 []) ?_ (0, s.heap, [], ls) ⟨Nat.zero_le _, hP, hD, hS, lv_sub hl [0, 1, 2] rfl⟩
      rintro ⟨i, H, locs, ls⟩ ⟨hi, hP, hD, hS, hl⟩ ih
      have hi : i ≤ T := hi
      have hP : va_P (dC, dI) vwCl (mw dA h q ((xRn bs ops tg sr sc n i (mem, sm)).1) bs ops tg sr sc (nI n) ((xRn bs ops tg sr sc n i (mem, sm)).2)) H := hP
      have hD : va_D A (mw dA h q ((xRn bs ops tg sr sc n i (mem, sm)).1) bs ops tg sr sc (nI n) ((xRn bs ops tg sr sc n i (mem, sm)).2)) := hD
      have hS : va_S A s.heap H locs := hS
      have hl : lv_has ls 5 [(2, .int (nI i)), (0, .ref h), (1, .int (nI T))] := hl
      show W p l e _ s m _ below meth c H locs _ _ _ (F0 m 14 ls [])
      refine lv_iload_n hx hb dX1_run_14 rfl (lv_at hl 0 rfl) ?_
      refine lv_iload_n hx hb dX1_run_15 rfl (lv_at hl 2 rfl) ?_
      refine lv_icmp_ge (tgt := 122) hx hb dX1_run_16 (by decide) (fun c_3 => ?_) (fun c_3 => ?_)
      · have hiT : i = T := by have z := (nI_leI (a := T) (b := i) (by omega) (by omega)).mp c_3; omega
        subst hiT
        refine lv_aload_n hx hb dX1_run_122 rfl (lv_at hl 1 rfl) ?_
        refine va_get (D := (dC, dI)) (ci := 1) (v := .int ((xRn bs ops tg sr sc n i (mem, sm)).2)) (C := RX1) (T := TX1) (N := 8) hx hb hts in_X1 hown hK hP 0 rfl rfl 2 (by decide) (hts _ q189) (fun _ h9 => h9) rfl dX1_run_123 ?_
        exact W.iret (v := ((xRn bs ops tg sr sc n i (mem, sm)).2)) hx hb hr (fun t ht hW => ⟨⟨((xRn bs ops tg sr sc n i (mem, sm)).2), (((xRn bs ops tg sr sc n i (mem, sm)).1), bs, ops, tg, sr, sc, (nI n), ((xRn bs ops tg sr sc n i (mem, sm)).2)), rfl, (aRu_2 (u := (mem, bs, ops, tg, sr, sc, nI n, sm)) hg rfl (by omega) rfl (by omega) rfl).symm, by rw [ht]; exact hP, va_K.moved hW.alike hK, hD⟩, hS.F ht⟩) hS.2.2 dX1_run_126
      · have hiT : i < T := by rcases Nat.lt_or_ge i T with z | z; exact z; exact absurd (nI_le z (by omega)) c_3
        refine lv_iconst (v := 0) hx hb dX1_run_19 (by decide) ?_
        refine lv_istore_n (lv' := [(3, .int 0), (2, .int (nI i)), (0, .ref h), (1, .int (nI T))]) hx hb dX1_run_20 rfl hl (by decide) rfl (fun ls hl => ?_)
        refine ha_loop (σ := Nat × Heap × List Loc × Array Slot) (fun x => n - x.1) (fun x => (x.1 ≤ n) ∧ (va_P (dC, dI) vwCl (mw dA h q ((ha_fold (fun k => st1 bs ops tg sr sc k i) (x.1) (xRn bs ops tg sr sc n i (mem, sm))).1) bs ops tg sr sc (nI n) ((ha_fold (fun k => st1 bs ops tg sr sc k i) (x.1) (xRn bs ops tg sr sc n i (mem, sm))).2)) x.2.1) ∧ (va_D A (mw dA h q ((ha_fold (fun k => st1 bs ops tg sr sc k i) (x.1) (xRn bs ops tg sr sc n i (mem, sm))).1) bs ops tg sr sc (nI n) ((ha_fold (fun k => st1 bs ops tg sr sc k i) (x.1) (xRn bs ops tg sr sc n i (mem, sm))).2))) ∧ (va_S A s.heap x.2.1 x.2.2.1) ∧ (lv_has x.2.2.2 5 [(3, .int (nI (x.1))), (2, .int (nI i)), (0, .ref h), (1, .int (nI T))])) (fun x => x.2.1) (fun x => x.2.2.1) (fun x => F0 m 21 x.2.2.2 []) ?_ (0, H, locs, ls) ⟨Nat.zero_le _, hP, hD, hS, lv_sub hl [0, 1, 2, 3] rfl⟩
        rintro ⟨k, H, locs, ls⟩ ⟨hk, hP, hD, hS, hl⟩ ih2
        have hk : k ≤ n := hk
        have hP : va_P (dC, dI) vwCl (mw dA h q ((ha_fold (fun k => st1 bs ops tg sr sc k i) k (xRn bs ops tg sr sc n i (mem, sm))).1) bs ops tg sr sc (nI n) ((ha_fold (fun k => st1 bs ops tg sr sc k i) k (xRn bs ops tg sr sc n i (mem, sm))).2)) H := hP
        have hD : va_D A (mw dA h q ((ha_fold (fun k => st1 bs ops tg sr sc k i) k (xRn bs ops tg sr sc n i (mem, sm))).1) bs ops tg sr sc (nI n) ((ha_fold (fun k => st1 bs ops tg sr sc k i) k (xRn bs ops tg sr sc n i (mem, sm))).2)) := hD
        have hS : va_S A s.heap H locs := hS
        have hl : lv_has ls 5 [(3, .int (nI k)), (2, .int (nI i)), (0, .ref h), (1, .int (nI T))] := hl
        show W p l e _ s m _ below meth c H locs _ _ _ (F0 m 21 ls [])
        refine lv_iload_n hx hb dX1_run_21 rfl (lv_at hl 0 rfl) ?_
        refine lv_aload_n hx hb dX1_run_22 rfl (lv_at hl 2 rfl) ?_
        refine va_get (D := (dC, dI)) (ci := 1) (v := .int (nI n)) (C := RX1) (T := TX1) (N := 8) hx hb hts in_X1 hown hK hP 0 rfl rfl 3 (by decide) (hts _ q190) (fun _ h9 => h9) rfl dX1_run_23 ?_
        refine lv_icmp_ge (tgt := 116) hx hb dX1_run_26 (by decide) (fun c_4 => ?_) (fun c_4 => ?_)
        · have hkn : k = n := by have z := (nI_leI (a := n) (b := k) (by omega) (by omega)).mp c_4; omega
          rw [hkn] at hP hD
          refine lv_iinc (v := nI (i + 1)) (lv' := [(2, .int (nI (i + 1))), (3, .int (nI k)), (0, .ref h), (1, .int (nI T))]) hx hb dX1_run_116 hl (k := 1) rfl (nI_1 i) (by decide) rfl (fun ls hl => ?_)
          refine lv_goto (tgt := 14) hx hb dX1_run_119 (by decide) ?_
          exact ih (i + 1, H, locs, ls) ⟨by omega, by dsimp only; rw [← xRn_1]; exact hP, by dsimp only; rw [← xRn_1]; exact hD, hS, lv_sub hl [0, 2, 3] rfl⟩ (by dsimp only; omega)
        · have hlt : k < n := by rcases Nat.lt_or_ge k n with z | z; exact z; exact absurd (nI_le z (by omega)) c_4
          have hk5 : k < 5 := by omega
          obtain ⟨t0, t7, tt, ts, t2⟩ := hst k hlt
          refine lv_iload_n hx hb dX1_run_29 rfl (lv_at hl 0 rfl) ?_
          refine lv_iconst (v := 5) hx hb dX1_run_30 (by decide) ?_
          refine lv_icmp_ge (tgt := 116) hx hb dX1_run_31 (by decide) (fun c_5 => ?_) (fun c_5 => ?_)
          · exact absurd c_5 (nI_ge hk5 (by decide))
          · refine lv_aload_n hx hb dX1_run_34 rfl (lv_at hl 2 rfl) ?_
            refine va_get (D := (dC, dI)) (ci := 1) (v := .ref (q 2)) (C := RX1) (T := TX1) (N := 8) hx hb hts in_X1 hown hK hP 0 rfl rfl 4 (by decide) (hts _ q191) (fun _ h9 => h9) rfl dX1_run_35 ?_
            refine lv_iload_n hx hb dX1_run_38 rfl (lv_at hl 0 rfl) ?_
            refine ha_ld hx hb hK hP 3 0 rfl rfl k (rfl) (hk5) (by decide) dX1_run_39 ?_
            refine lv_bipush (v := 6) hx hb dX1_run_40 (by decide) ?_
            refine lv_icmp_ne (tgt := 84) hx hb dX1_run_42 (by decide) (fun c_6 => ?_) (fun c_6 => ?_)
            · refine lv_aload_n hx hb dX1_run_84 rfl (lv_at hl 2 rfl) ?_
              refine lv_aload_n hx hb dX1_run_85 rfl (lv_at hl 2 rfl) ?_
              refine va_get (D := (dC, dI)) (ci := 1) (v := .ref (q 3)) (C := RX1) (T := TX1) (N := 8) hx hb hts in_X1 hown hK hP 0 rfl rfl 5 (by decide) (hts _ q192) (fun _ h9 => h9) rfl dX1_run_86 ?_
              refine lv_iload_n hx hb dX1_run_89 rfl (lv_at hl 0 rfl) ?_
              refine ha_ld hx hb hK hP 4 0 rfl rfl k (rfl) (hk5) (by decide) dX1_run_90 ?_
              refine lv_iload_n hx hb dX1_run_91 rfl (lv_at hl 1 rfl) ?_
              refine vp_callSi (W.runV (As := [.int (tg k), .int (nI i)]) (rest := []) ⟨hx, hb, hml, hown, hts⟩ (metX1_place l dC dI dA h q ((ha_fold (fun k => st1 bs ops tg sr sc k i) k (xRn bs ops tg sr sc n i (mem, sm))).1) bs ops tg sr sc (nI n) ((ha_fold (fun k => st1 bs ops tg sr sc k i) k (xRn bs ops tg sr sc n i (mem, sm))).2) (tg k) (nI i) tt) (cwV 2 hts (lw_V q240 q242 qs10 q15 q243) rfl rfl rfl (by decide +kernel) ⟨Nat.le_of_ble_eq_true rfl, Nat.le_of_ble_eq_true rfl⟩) ⟨ha_R_blind, va_recv hK hP (ci := 1) (q0 := 0) rfl rfl, fun U hU hW => ⟨rfl, by rw [hU]; exact hP, va_K.moved hW.alike hK⟩⟩ rfl rfl hl.1 rfl (lv_room (Nat.le_of_ble_eq_true rfl)) dX1_run_92 ⟨Nat.le_of_ble_eq_true rfl, Nat.le_of_ble_eq_true rfl⟩) (fun r_ hw => ?_)
              have hw : r_ = xCell bs (tg k) (nI i) := hw
              subst hw
              refine lv_istore (lv' := [(4, .int (xCell bs (tg k) (nI i))), (3, .int (nI k)), (2, .int (nI i)), (0, .ref h), (1, .int (nI T))]) hx hb dX1_run_95 hl (by decide) rfl (fun ls hl => ?_)
              refine lv_aload_n hx hb dX1_run_97 rfl (lv_at hl 3 rfl) ?_
              refine va_get (D := (dC, dI)) (ci := 1) (v := .ref (q 0)) (C := RX1) (T := TX1) (N := 8) hx hb hts in_X1 hown hK hP 0 rfl rfl 0 (by decide) (hts _ q187) (fun _ h9 => h9) rfl dX1_run_98 ?_
              refine lv_iload hx hb dX1_run_101 (lv_at hl 0 rfl) ?_
              refine lv_aload_n hx hb dX1_run_103 rfl (lv_at hl 3 rfl) ?_
              refine lv_iload_n hx hb dX1_run_104 rfl (lv_at hl 1 rfl) ?_
              refine lv_iload_n hx hb dX1_run_105 rfl (lv_at hl 2 rfl) ?_
              refine vp_callSi (W.runV (As := [.int (nI k), .int (nI i)]) (rest := [.int (xCell bs (tg k) (nI i)), .ref (q 0)]) ⟨hx, hb, hml, hown, hts⟩ (metX1_result l dC dI dA h q ((ha_fold (fun k => st1 bs ops tg sr sc k i) k (xRn bs ops tg sr sc n i (mem, sm))).1) bs ops tg sr sc (nI n) ((ha_fold (fun k => st1 bs ops tg sr sc k i) k (xRn bs ops tg sr sc n i (mem, sm))).2) k i hk5 ts t0 t7 c_6 t2) (cwV 2 hts (lw_V q244 q246 qs11 q15 q247) rfl rfl rfl (by decide +kernel) ⟨Nat.le_of_ble_eq_true rfl, Nat.le_of_ble_eq_true rfl⟩) ⟨ha_R_blind, va_recv hK hP (ci := 1) (q0 := 0) rfl rfl, fun U hU hW => ⟨rfl, by rw [hU]; exact hP, va_K.moved hW.alike hK⟩⟩ rfl rfl hl.1 rfl (lv_room (Nat.le_of_ble_eq_true rfl)) dX1_run_106 ⟨Nat.le_of_ble_eq_true rfl, Nat.le_of_ble_eq_true rfl⟩) (fun r_ hw => ?_)
              have hw : r_ = xVal bs ops sr sc ((ha_fold (fun k => st1 bs ops tg sr sc k i) k (xRn bs ops tg sr sc n i (mem, sm))).1) k i := hw
              subst hw
              refine va_iast hx hb hK hP hD hS 1 0 rfl rfl (xCell_in _ _ _) dX1_run_109 (fun H locs hP hD hS => ?_)
              have hP : va_P (dC, dI) vwCl (mw dA h q (upd ((ha_fold (fun k => st1 bs ops tg sr sc k i) k (xRn bs ops tg sr sc n i (mem, sm))).1) (xCell bs (tg k) (nI i)).toNatClampNeg (xVal bs ops sr sc ((ha_fold (fun k => st1 bs ops tg sr sc k i) k (xRn bs ops tg sr sc n i (mem, sm))).1) k i)) bs ops tg sr sc (nI n) ((ha_fold (fun k => st1 bs ops tg sr sc k i) k (xRn bs ops tg sr sc n i (mem, sm))).2)) H := hP
              have hD : va_D A (mw dA h q (upd ((ha_fold (fun k => st1 bs ops tg sr sc k i) k (xRn bs ops tg sr sc n i (mem, sm))).1) (xCell bs (tg k) (nI i)).toNatClampNeg (xVal bs ops sr sc ((ha_fold (fun k => st1 bs ops tg sr sc k i) k (xRn bs ops tg sr sc n i (mem, sm))).1) k i)) bs ops tg sr sc (nI n) ((ha_fold (fun k => st1 bs ops tg sr sc k i) k (xRn bs ops tg sr sc n i (mem, sm))).2)) := hD
              refine lv_iinc (v := nI (k + 1)) (lv' := [(3, .int (nI (k + 1))), (4, .int (xCell bs (tg k) (nI i))), (2, .int (nI i)), (0, .ref h), (1, .int (nI T))]) hx hb dX1_run_110 hl (k := 1) rfl (nI_1 k) (by decide) rfl (fun ls hl => ?_)
              refine lv_goto (tgt := 21) hx hb dX1_run_113 (by decide) ?_
              exact ih2 (k + 1, H, locs, ls) ⟨by omega, by dsimp only; rw [xFd_s, st1_put c_6]; exact hP, by dsimp only; rw [xFd_s, st1_put c_6]; exact hD, hS, lv_sub hl [0, 2, 3, 4] rfl⟩ (by dsimp only; omega)
            · refine lv_aload_n hx hb dX1_run_45 rfl (lv_at hl 2 rfl) ?_
              refine va_get (D := (dC, dI)) (ci := 1) (v := .ref (q 0)) (C := RX1) (T := TX1) (N := 8) hx hb hts in_X1 hown hK hP 0 rfl rfl 0 (by decide) (hts _ q187) (fun _ h9 => h9) rfl dX1_run_46 ?_
              refine lv_aload_n hx hb dX1_run_49 rfl (lv_at hl 2 rfl) ?_
              refine lv_aload_n hx hb dX1_run_50 rfl (lv_at hl 2 rfl) ?_
              refine va_get (D := (dC, dI)) (ci := 1) (v := .ref (q 4)) (C := RX1) (T := TX1) (N := 8) hx hb hts in_X1 hown hK hP 0 rfl rfl 6 (by decide) (hts _ q193) (fun _ h9 => h9) rfl dX1_run_51 ?_
              refine lv_iload_n hx hb dX1_run_54 rfl (lv_at hl 0 rfl) ?_
              refine ha_ld hx hb hK hP 5 0 rfl rfl k (rfl) (hk5) (by decide) dX1_run_55 ?_
              refine lv_iload_n hx hb dX1_run_56 rfl (lv_at hl 1 rfl) ?_
              refine vp_callSi (W.runV (As := [.int (sr k), .int (nI i)]) (rest := [.ref (q 0)]) ⟨hx, hb, hml, hown, hts⟩ (metX1_place l dC dI dA h q ((ha_fold (fun k => st1 bs ops tg sr sc k i) k (xRn bs ops tg sr sc n i (mem, sm))).1) bs ops tg sr sc (nI n) ((ha_fold (fun k => st1 bs ops tg sr sc k i) k (xRn bs ops tg sr sc n i (mem, sm))).2) (sr k) (nI i) ts) (cwV 2 hts (lw_V q240 q242 qs10 q15 q243) rfl rfl rfl (by decide +kernel) ⟨Nat.le_of_ble_eq_true rfl, Nat.le_of_ble_eq_true rfl⟩) ⟨ha_R_blind, va_recv hK hP (ci := 1) (q0 := 0) rfl rfl, fun U hU hW => ⟨rfl, by rw [hU]; exact hP, va_K.moved hW.alike hK⟩⟩ rfl rfl hl.1 rfl (lv_room (Nat.le_of_ble_eq_true rfl)) dX1_run_57 ⟨Nat.le_of_ble_eq_true rfl, Nat.le_of_ble_eq_true rfl⟩) (fun r_ hw => ?_)
              have hw : r_ = xCell bs (sr k) (nI i) := hw
              subst hw
              refine va_iald hx hb hK hP 1 0 rfl rfl (xCell_in _ _ _) dX1_run_60 ?_
              refine lv_istore (lv' := [(4, .int (((ha_fold (fun k => st1 bs ops tg sr sc k i) k (xRn bs ops tg sr sc n i (mem, sm))).1) (xCell bs (sr k) (nI i)).toNatClampNeg)), (3, .int (nI k)), (2, .int (nI i)), (0, .ref h), (1, .int (nI T))]) hx hb dX1_run_61 hl (by decide) rfl (fun ls hl => ?_)
              refine lv_aload_n hx hb dX1_run_63 rfl (lv_at hl 3 rfl) ?_
              refine lv_dup hx hb dX1_run_64 rfl ?_
              refine va_get (D := (dC, dI)) (ci := 1) (v := .int ((ha_fold (fun k => st1 bs ops tg sr sc k i) k (xRn bs ops tg sr sc n i (mem, sm))).2)) (C := RX1) (T := TX1) (N := 8) hx hb hts in_X1 hown hK hP 0 rfl rfl 2 (by decide) (hts _ q189) (fun _ h9 => h9) rfl dX1_run_65 ?_
              refine lv_iload hx hb dX1_run_68 (lv_at hl 0 rfl) ?_
              refine lv_aload_n hx hb dX1_run_70 rfl (lv_at hl 3 rfl) ?_
              refine va_get (D := (dC, dI)) (ci := 1) (v := .ref (q 5)) (C := RX1) (T := TX1) (N := 8) hx hb hts in_X1 hown hK hP 0 rfl rfl 7 (by decide) (hts _ q194) (fun _ h9 => h9) rfl dX1_run_71 ?_
              refine lv_iload_n hx hb dX1_run_74 rfl (lv_at hl 1 rfl) ?_
              refine ha_ld hx hb hK hP 6 0 rfl rfl k (rfl) (hk5) (by decide) dX1_run_75 ?_
              refine lv_imul hx hb dX1_run_76 ?_
              refine lv_iadd hx hb dX1_run_77 ?_
              refine va_put (D := (dC, dI)) (ci := 1) (v := .int (((ha_fold (fun k => st1 bs ops tg sr sc k i) k (xRn bs ops tg sr sc n i (mem, sm))).2) + ((((ha_fold (fun k => st1 bs ops tg sr sc k i) k (xRn bs ops tg sr sc n i (mem, sm))).1) (xCell bs (sr k) (nI i)).toNatClampNeg) * (sc k)))) (ty := .int) (C := RX1) (T := TX1) (N := 8) hx hb hts in_X1 tyX1 tyX1_ok nmX1 hown hK hP hD hS 0 rfl rfl 2 (by decide) (hts _ q189) (fun _ h9 => h9) rfl (by decide +kernel) rfl rfl (Nat.le_of_ble_eq_true rfl) dX1_run_78 (fun H locs hP hD hS => ?_)
              have hP : va_P (dC, dI) vwCl (mw dA h q ((ha_fold (fun k => st1 bs ops tg sr sc k i) k (xRn bs ops tg sr sc n i (mem, sm))).1) bs ops tg sr sc (nI n) (((ha_fold (fun k => st1 bs ops tg sr sc k i) k (xRn bs ops tg sr sc n i (mem, sm))).2) + ((((ha_fold (fun k => st1 bs ops tg sr sc k i) k (xRn bs ops tg sr sc n i (mem, sm))).1) (xCell bs (sr k) (nI i)).toNatClampNeg) * (sc k)))) H := hP
              have hD : va_D A (mw dA h q ((ha_fold (fun k => st1 bs ops tg sr sc k i) k (xRn bs ops tg sr sc n i (mem, sm))).1) bs ops tg sr sc (nI n) (((ha_fold (fun k => st1 bs ops tg sr sc k i) k (xRn bs ops tg sr sc n i (mem, sm))).2) + ((((ha_fold (fun k => st1 bs ops tg sr sc k i) k (xRn bs ops tg sr sc n i (mem, sm))).1) (xCell bs (sr k) (nI i)).toNatClampNeg) * (sc k)))) := hD
              refine lv_goto (tgt := 110) hx hb dX1_run_81 (by decide) ?_
              refine lv_iinc (v := nI (k + 1)) (lv' := [(3, .int (nI (k + 1))), (4, .int (((ha_fold (fun k => st1 bs ops tg sr sc k i) k (xRn bs ops tg sr sc n i (mem, sm))).1) (xCell bs (sr k) (nI i)).toNatClampNeg)), (2, .int (nI i)), (0, .ref h), (1, .int (nI T))]) hx hb dX1_run_110 hl (k := 1) rfl (nI_1 k) (by decide) rfl (fun ls hl => ?_)
              refine lv_goto (tgt := 21) hx hb dX1_run_113 (by decide) ?_
              exact ih2 (k + 1, H, locs, ls) ⟨by omega, by dsimp only; rw [xFd_s, st1_sum c_6, xW_no (fun z => xTwo_6 z c_6)]; exact hP, by dsimp only; rw [xFd_s, st1_sum c_6, xW_no (fun z => xTwo_6 z c_6)]; exact hD, hS, lv_sub hl [0, 2, 3, 4] rfl⟩ (by dsimp only; omega)
    · refine lv_iconst (v := (-1)) hx hb dX1_run_10 (by decide) ?_
      exact W.iret (v := (-1)) hx hb hr (fun t ht hW => ⟨⟨(-1), (mem, bs, ops, tg, sr, sc, (nI n), sm), rfl, (aRu_1 (u := (mem, bs, ops, tg, sr, sc, nI n, sm)) (Or.inr (fa_of_nle c_2))).symm, by rw [ht]; exact hP, va_K.moved hW.alike hK, hD⟩, hS.F ht⟩) hS.2.2 dX1_run_11
end
section
set_option maxHeartbeats 4000000 in
set_option maxRecDepth 100000 in
/-- the constructor: new arrays of zeros -/
theorem metX0_init (l : Launch) (dC : Nat → ClassId) (dI : Nat → Nat → Nat) (h sz : Nat) : Met l yX0_init (ws_ yX0_init cX0_init 1 none) ({ frames := 1, cells := 10, slots := 126, locals := 12 }) (ha_M dC dI [.ref h] sz ([(h, .inr (0, [.null, .null, .null, .null, .null, .null, .null, .null, .null, .null, .int 0, .int 0, .int 0]))]) []) (va_Qv (S := ClassId × ClassId × (Nat → Nat)) (fun _ => True) (fun y t => ha_B dC dI (va_A ([(h, .inr (0, [.null, .null, .null, .null, .null, .null, .null, .null, .null, .null, .int 0, .int 0, .int 0]))]) sz) (xw y.1 y.2.1 h y.2.2 (fun _ => 0) (fun _ => 0) (fun _ => 0) (fun _ => 0) (fun _ => 0) (fun _ => 0) (fun _ => 0) (fun _ => 0) (fun _ => 0) (fun _ => 0) 0 0 0) (xT y.1 y.2.1) t) (va_A ([(h, .inr (0, [.null, .null, .null, .null, .null, .null, .null, .null, .null, .null, .int 0, .int 0, .int 0]))]) sz)) 10 126 (va_A ([(h, .inr (0, [.null, .null, .null, .null, .null, .null, .null, .null, .null, .null, .int 0, .int 0, .int 0]))]) sz) := by
  refine Met.ofW (cc := cX0_init) (maxL := 1) (ret := none) (by decide) rfl ?_
  intro p e s m args below meth c s₁ B hml hv
  obtain ⟨rfl, hsz, hP, hK, hD0⟩ := hv
  have hx := B.exec
  have hb := B.bytes
  have hr := B.returns
  have hts := atoms_spec (ws := ws_ yX0_init cX0_init 1 none) B.pre
  have hts : ∀ w ∈ lw_all, w.before _ s = true := fun w h => hts w (List.mem_cons_of_mem _ h)
  have hown : s.vm.findClass RX0 = some m.cls := findClass_of_methodNamed B.named
  have hlocks := B.notSynchronized
  have hin : meth.name = "<init>" := (name_of_methodNamed B.named B.method).1
  subst hsz
  have hD := hD0.self (sz := s.heap.size)
  generalize hAe : va_A ([(h, .inr (0, [.null, .null, .null, .null, .null, .null, .null, .null, .null, .null, .int 0, .int 0, .int 0]))]) s.heap.size = A at hD ⊢
  have hA : ∀ q : Nat, s.heap.size ≤ q → A q := fun q h => by rw [← hAe]; exact Or.inr h
  have hS : va_S A s.heap s.heap [] := va_S.rf
  have hl := lv_entry ([.ref h]) (n := 1) (Nat.le_of_ble_eq_true rfl)
  rw [lg_entry_eq]
  generalize (lg_sl ([.ref h]) ++ List.replicate (1 - (lg_sl ([.ref h])).length) Slot.unset).toArray = ls at hl ⊢
  have hl : lv_has ls 1 [(0, .ref h)] := hl
  refine lv_aload_n hx hb dX0_init_0 rfl (lv_at hl 0 rfl) ?_
  refine W.objInit hx hb hown (hts _ q21) (hts _ q22) (hts _ q23) rfl (by rw [hml]; exact hl.1) rfl dX0_init_1 (Nat.le_of_ble_eq_true rfl) (Nat.le_of_ble_eq_true rfl) ?_
  refine W.eq (g2 := F0 m 4 ls []) rfl ?_
  refine lv_aload_n hx hb dX0_init_4 rfl (lv_at hl 0 rfl) ?_
  refine lv_bipush (v := 64) hx hb dX0_init_5 (by decide) ?_
  refine va_newa (atype := .int) (a0 := (64, .inl (fun _ => 0))) hx hb (hts _ q64) rfl hK hP hD hS hA (fun _ => rfl) (by decide) (N' := 64) (by decide) (by decide) (Nat.le_of_ble_eq_true rfl) (Nat.le_of_ble_eq_true rfl) dX0_init_7 (fun q0 d0 H hK hP hD hS => ?_)
  have hK : va_K (dC, dI) vwCl [(d0, .int)] s := hK
  have hP : va_P (dC, dI) vwCl [(h, .inr (0, [.null, .null, .null, .null, .null, .null, .null, .null, .null, .null, .int 0, .int 0, .int 0])), (q0, .inl (d0, 64, .inl (fun _ => 0)))] H := hP
  have hD : va_D A [(h, .inr (0, [.null, .null, .null, .null, .null, .null, .null, .null, .null, .null, .int 0, .int 0, .int 0])), (q0, .inl (d0, 64, .inl (fun _ => 0)))] := hD
  refine W.widen (k := 1) (n := 64) (by omega) (by omega) ?_
  refine va_putF (D := (dC, dI)) (ci := 0) (v := .ref q0) (ty := .array .int) (C := RX0) (T := TX0) (N := 13) hx hb hts in_X0 tyX0 tyX0_ok nmX0 hown hK hP hD hS 0 rfl rfl 0 (by decide) (hts _ q24) (fun _ h9 => h9) rfl hin rfl (by decide +kernel) rfl rfl (Nat.le_of_ble_eq_true rfl) dX0_init_9 (fun H locs hP hD hS => ?_)
  have hP : va_P (dC, dI) vwCl [(h, .inr (0, [.ref q0, .null, .null, .null, .null, .null, .null, .null, .null, .null, .int 0, .int 0, .int 0])), (q0, .inl (d0, 64, .inl (fun _ => 0)))] H := hP
  have hD : va_D A [(h, .inr (0, [.ref q0, .null, .null, .null, .null, .null, .null, .null, .null, .null, .int 0, .int 0, .int 0])), (q0, .inl (d0, 64, .inl (fun _ => 0)))] := hD
  refine lv_aload_n hx hb dX0_init_12 rfl (lv_at hl 0 rfl) ?_
  refine lv_iconst (v := 4) hx hb dX0_init_13 (by decide) ?_
  refine va_newa (atype := .int) (a0 := (4, .inl (fun _ => 0))) hx hb (hts _ q64) rfl hK hP hD hS hA (fun _ => rfl) (by decide) (N' := 4) (by decide) (by decide) (Nat.le_of_ble_eq_true rfl) (Nat.le_of_ble_eq_true rfl) dX0_init_14 (fun q1 d1 H hK hP hD hS => ?_)
  obtain rfl := ha_sameI hK (i := 0) (j := 1) (a := d0) (b := d1) rfl rfl
  have hK : va_K (dC, dI) vwCl [(d0, .int)] s := hK.sub [0] rfl
  have hP : va_P (dC, dI) vwCl [(h, .inr (0, [.ref q0, .null, .null, .null, .null, .null, .null, .null, .null, .null, .int 0, .int 0, .int 0])), (q0, .inl (d0, 64, .inl (fun _ => 0))), (q1, .inl (d0, 4, .inl (fun _ => 0)))] H := hP
  have hD : va_D A [(h, .inr (0, [.ref q0, .null, .null, .null, .null, .null, .null, .null, .null, .null, .int 0, .int 0, .int 0])), (q0, .inl (d0, 64, .inl (fun _ => 0))), (q1, .inl (d0, 4, .inl (fun _ => 0)))] := hD
  refine W.widen (k := 2) (n := 68) (by omega) (by omega) ?_
  refine va_putF (D := (dC, dI)) (ci := 0) (v := .ref q1) (ty := .array .int) (C := RX0) (T := TX0) (N := 13) hx hb hts in_X0 tyX0 tyX0_ok nmX0 hown hK hP hD hS 0 rfl rfl 1 (by decide) (hts _ q25) (fun _ h9 => h9) rfl hin rfl (by decide +kernel) rfl rfl (Nat.le_of_ble_eq_true rfl) dX0_init_16 (fun H locs hP hD hS => ?_)
  have hP : va_P (dC, dI) vwCl [(h, .inr (0, [.ref q0, .ref q1, .null, .null, .null, .null, .null, .null, .null, .null, .int 0, .int 0, .int 0])), (q0, .inl (d0, 64, .inl (fun _ => 0))), (q1, .inl (d0, 4, .inl (fun _ => 0)))] H := hP
  have hD : va_D A [(h, .inr (0, [.ref q0, .ref q1, .null, .null, .null, .null, .null, .null, .null, .null, .int 0, .int 0, .int 0])), (q0, .inl (d0, 64, .inl (fun _ => 0))), (q1, .inl (d0, 4, .inl (fun _ => 0)))] := hD
  refine lv_aload_n hx hb dX0_init_19 rfl (lv_at hl 0 rfl) ?_
  refine lv_iconst (v := 5) hx hb dX0_init_20 (by decide) ?_
  refine va_newa (atype := .int) (a0 := (5, .inl (fun _ => 0))) hx hb (hts _ q64) rfl hK hP hD hS hA (fun _ => rfl) (by decide) (N' := 5) (by decide) (by decide) (Nat.le_of_ble_eq_true rfl) (Nat.le_of_ble_eq_true rfl) dX0_init_21 (fun q2 d2 H hK hP hD hS => ?_)
  obtain rfl := ha_sameI hK (i := 0) (j := 1) (a := d0) (b := d2) rfl rfl
  have hK : va_K (dC, dI) vwCl [(d0, .int)] s := hK.sub [0] rfl
  have hP : va_P (dC, dI) vwCl [(h, .inr (0, [.ref q0, .ref q1, .null, .null, .null, .null, .null, .null, .null, .null, .int 0, .int 0, .int 0])), (q0, .inl (d0, 64, .inl (fun _ => 0))), (q1, .inl (d0, 4, .inl (fun _ => 0))), (q2, .inl (d0, 5, .inl (fun _ => 0)))] H := hP
  have hD : va_D A [(h, .inr (0, [.ref q0, .ref q1, .null, .null, .null, .null, .null, .null, .null, .null, .int 0, .int 0, .int 0])), (q0, .inl (d0, 64, .inl (fun _ => 0))), (q1, .inl (d0, 4, .inl (fun _ => 0))), (q2, .inl (d0, 5, .inl (fun _ => 0)))] := hD
  refine W.widen (k := 3) (n := 73) (by omega) (by omega) ?_
  refine va_putF (D := (dC, dI)) (ci := 0) (v := .ref q2) (ty := .array .int) (C := RX0) (T := TX0) (N := 13) hx hb hts in_X0 tyX0 tyX0_ok nmX0 hown hK hP hD hS 0 rfl rfl 2 (by decide) (hts _ q26) (fun _ h9 => h9) rfl hin rfl (by decide +kernel) rfl rfl (Nat.le_of_ble_eq_true rfl) dX0_init_23 (fun H locs hP hD hS => ?_)
  have hP : va_P (dC, dI) vwCl [(h, .inr (0, [.ref q0, .ref q1, .ref q2, .null, .null, .null, .null, .null, .null, .null, .int 0, .int 0, .int 0])), (q0, .inl (d0, 64, .inl (fun _ => 0))), (q1, .inl (d0, 4, .inl (fun _ => 0))), (q2, .inl (d0, 5, .inl (fun _ => 0)))] H := hP
  have hD : va_D A [(h, .inr (0, [.ref q0, .ref q1, .ref q2, .null, .null, .null, .null, .null, .null, .null, .int 0, .int 0, .int 0])), (q0, .inl (d0, 64, .inl (fun _ => 0))), (q1, .inl (d0, 4, .inl (fun _ => 0))), (q2, .inl (d0, 5, .inl (fun _ => 0)))] := hD
  refine lv_aload_n hx hb dX0_init_26 rfl (lv_at hl 0 rfl) ?_
  refine lv_iconst (v := 5) hx hb dX0_init_27 (by decide) ?_
  refine va_newa (atype := .int) (a0 := (5, .inl (fun _ => 0))) hx hb (hts _ q64) rfl hK hP hD hS hA (fun _ => rfl) (by decide) (N' := 5) (by decide) (by decide) (Nat.le_of_ble_eq_true rfl) (Nat.le_of_ble_eq_true rfl) dX0_init_28 (fun q3 d3 H hK hP hD hS => ?_)
  obtain rfl := ha_sameI hK (i := 0) (j := 1) (a := d0) (b := d3) rfl rfl
  have hK : va_K (dC, dI) vwCl [(d0, .int)] s := hK.sub [0] rfl
  have hP : va_P (dC, dI) vwCl [(h, .inr (0, [.ref q0, .ref q1, .ref q2, .null, .null, .null, .null, .null, .null, .null, .int 0, .int 0, .int 0])), (q0, .inl (d0, 64, .inl (fun _ => 0))), (q1, .inl (d0, 4, .inl (fun _ => 0))), (q2, .inl (d0, 5, .inl (fun _ => 0))), (q3, .inl (d0, 5, .inl (fun _ => 0)))] H := hP
  have hD : va_D A [(h, .inr (0, [.ref q0, .ref q1, .ref q2, .null, .null, .null, .null, .null, .null, .null, .int 0, .int 0, .int 0])), (q0, .inl (d0, 64, .inl (fun _ => 0))), (q1, .inl (d0, 4, .inl (fun _ => 0))), (q2, .inl (d0, 5, .inl (fun _ => 0))), (q3, .inl (d0, 5, .inl (fun _ => 0)))] := hD
  refine W.widen (k := 4) (n := 78) (by omega) (by omega) ?_
  refine va_putF (D := (dC, dI)) (ci := 0) (v := .ref q3) (ty := .array .int) (C := RX0) (T := TX0) (N := 13) hx hb hts in_X0 tyX0 tyX0_ok nmX0 hown hK hP hD hS 0 rfl rfl 3 (by decide) (hts _ q27) (fun _ h9 => h9) rfl hin rfl (by decide +kernel) rfl rfl (Nat.le_of_ble_eq_true rfl) dX0_init_30 (fun H locs hP hD hS => ?_)
  have hP : va_P (dC, dI) vwCl [(h, .inr (0, [.ref q0, .ref q1, .ref q2, .ref q3, .null, .null, .null, .null, .null, .null, .int 0, .int 0, .int 0])), (q0, .inl (d0, 64, .inl (fun _ => 0))), (q1, .inl (d0, 4, .inl (fun _ => 0))), (q2, .inl (d0, 5, .inl (fun _ => 0))), (q3, .inl (d0, 5, .inl (fun _ => 0)))] H := hP
  have hD : va_D A [(h, .inr (0, [.ref q0, .ref q1, .ref q2, .ref q3, .null, .null, .null, .null, .null, .null, .int 0, .int 0, .int 0])), (q0, .inl (d0, 64, .inl (fun _ => 0))), (q1, .inl (d0, 4, .inl (fun _ => 0))), (q2, .inl (d0, 5, .inl (fun _ => 0))), (q3, .inl (d0, 5, .inl (fun _ => 0)))] := hD
  refine lv_aload_n hx hb dX0_init_33 rfl (lv_at hl 0 rfl) ?_
  refine lv_iconst (v := 5) hx hb dX0_init_34 (by decide) ?_
  refine va_newa (atype := .int) (a0 := (5, .inl (fun _ => 0))) hx hb (hts _ q64) rfl hK hP hD hS hA (fun _ => rfl) (by decide) (N' := 5) (by decide) (by decide) (Nat.le_of_ble_eq_true rfl) (Nat.le_of_ble_eq_true rfl) dX0_init_35 (fun q4 d4 H hK hP hD hS => ?_)
  obtain rfl := ha_sameI hK (i := 0) (j := 1) (a := d0) (b := d4) rfl rfl
  have hK : va_K (dC, dI) vwCl [(d0, .int)] s := hK.sub [0] rfl
  have hP : va_P (dC, dI) vwCl [(h, .inr (0, [.ref q0, .ref q1, .ref q2, .ref q3, .null, .null, .null, .null, .null, .null, .int 0, .int 0, .int 0])), (q0, .inl (d0, 64, .inl (fun _ => 0))), (q1, .inl (d0, 4, .inl (fun _ => 0))), (q2, .inl (d0, 5, .inl (fun _ => 0))), (q3, .inl (d0, 5, .inl (fun _ => 0))), (q4, .inl (d0, 5, .inl (fun _ => 0)))] H := hP
  have hD : va_D A [(h, .inr (0, [.ref q0, .ref q1, .ref q2, .ref q3, .null, .null, .null, .null, .null, .null, .int 0, .int 0, .int 0])), (q0, .inl (d0, 64, .inl (fun _ => 0))), (q1, .inl (d0, 4, .inl (fun _ => 0))), (q2, .inl (d0, 5, .inl (fun _ => 0))), (q3, .inl (d0, 5, .inl (fun _ => 0))), (q4, .inl (d0, 5, .inl (fun _ => 0)))] := hD
  refine W.widen (k := 5) (n := 83) (by omega) (by omega) ?_
  refine va_putF (D := (dC, dI)) (ci := 0) (v := .ref q4) (ty := .array .int) (C := RX0) (T := TX0) (N := 13) hx hb hts in_X0 tyX0 tyX0_ok nmX0 hown hK hP hD hS 0 rfl rfl 4 (by decide) (hts _ q28) (fun _ h9 => h9) rfl hin rfl (by decide +kernel) rfl rfl (Nat.le_of_ble_eq_true rfl) dX0_init_37 (fun H locs hP hD hS => ?_)
  have hP : va_P (dC, dI) vwCl [(h, .inr (0, [.ref q0, .ref q1, .ref q2, .ref q3, .ref q4, .null, .null, .null, .null, .null, .int 0, .int 0, .int 0])), (q0, .inl (d0, 64, .inl (fun _ => 0))), (q1, .inl (d0, 4, .inl (fun _ => 0))), (q2, .inl (d0, 5, .inl (fun _ => 0))), (q3, .inl (d0, 5, .inl (fun _ => 0))), (q4, .inl (d0, 5, .inl (fun _ => 0)))] H := hP
  have hD : va_D A [(h, .inr (0, [.ref q0, .ref q1, .ref q2, .ref q3, .ref q4, .null, .null, .null, .null, .null, .int 0, .int 0, .int 0])), (q0, .inl (d0, 64, .inl (fun _ => 0))), (q1, .inl (d0, 4, .inl (fun _ => 0))), (q2, .inl (d0, 5, .inl (fun _ => 0))), (q3, .inl (d0, 5, .inl (fun _ => 0))), (q4, .inl (d0, 5, .inl (fun _ => 0)))] := hD
  refine lv_aload_n hx hb dX0_init_40 rfl (lv_at hl 0 rfl) ?_
  refine lv_iconst (v := 5) hx hb dX0_init_41 (by decide) ?_
  refine va_newa (atype := .int) (a0 := (5, .inl (fun _ => 0))) hx hb (hts _ q64) rfl hK hP hD hS hA (fun _ => rfl) (by decide) (N' := 5) (by decide) (by decide) (Nat.le_of_ble_eq_true rfl) (Nat.le_of_ble_eq_true rfl) dX0_init_42 (fun q5 d5 H hK hP hD hS => ?_)
  obtain rfl := ha_sameI hK (i := 0) (j := 1) (a := d0) (b := d5) rfl rfl
  have hK : va_K (dC, dI) vwCl [(d0, .int)] s := hK.sub [0] rfl
  have hP : va_P (dC, dI) vwCl [(h, .inr (0, [.ref q0, .ref q1, .ref q2, .ref q3, .ref q4, .null, .null, .null, .null, .null, .int 0, .int 0, .int 0])), (q0, .inl (d0, 64, .inl (fun _ => 0))), (q1, .inl (d0, 4, .inl (fun _ => 0))), (q2, .inl (d0, 5, .inl (fun _ => 0))), (q3, .inl (d0, 5, .inl (fun _ => 0))), (q4, .inl (d0, 5, .inl (fun _ => 0))), (q5, .inl (d0, 5, .inl (fun _ => 0)))] H := hP
  have hD : va_D A [(h, .inr (0, [.ref q0, .ref q1, .ref q2, .ref q3, .ref q4, .null, .null, .null, .null, .null, .int 0, .int 0, .int 0])), (q0, .inl (d0, 64, .inl (fun _ => 0))), (q1, .inl (d0, 4, .inl (fun _ => 0))), (q2, .inl (d0, 5, .inl (fun _ => 0))), (q3, .inl (d0, 5, .inl (fun _ => 0))), (q4, .inl (d0, 5, .inl (fun _ => 0))), (q5, .inl (d0, 5, .inl (fun _ => 0)))] := hD
  refine W.widen (k := 6) (n := 88) (by omega) (by omega) ?_
  refine va_putF (D := (dC, dI)) (ci := 0) (v := .ref q5) (ty := .array .int) (C := RX0) (T := TX0) (N := 13) hx hb hts in_X0 tyX0 tyX0_ok nmX0 hown hK hP hD hS 0 rfl rfl 5 (by decide) (hts _ q29) (fun _ h9 => h9) rfl hin rfl (by decide +kernel) rfl rfl (Nat.le_of_ble_eq_true rfl) dX0_init_44 (fun H locs hP hD hS => ?_)
  have hP : va_P (dC, dI) vwCl [(h, .inr (0, [.ref q0, .ref q1, .ref q2, .ref q3, .ref q4, .ref q5, .null, .null, .null, .null, .int 0, .int 0, .int 0])), (q0, .inl (d0, 64, .inl (fun _ => 0))), (q1, .inl (d0, 4, .inl (fun _ => 0))), (q2, .inl (d0, 5, .inl (fun _ => 0))), (q3, .inl (d0, 5, .inl (fun _ => 0))), (q4, .inl (d0, 5, .inl (fun _ => 0))), (q5, .inl (d0, 5, .inl (fun _ => 0)))] H := hP
  have hD : va_D A [(h, .inr (0, [.ref q0, .ref q1, .ref q2, .ref q3, .ref q4, .ref q5, .null, .null, .null, .null, .int 0, .int 0, .int 0])), (q0, .inl (d0, 64, .inl (fun _ => 0))), (q1, .inl (d0, 4, .inl (fun _ => 0))), (q2, .inl (d0, 5, .inl (fun _ => 0))), (q3, .inl (d0, 5, .inl (fun _ => 0))), (q4, .inl (d0, 5, .inl (fun _ => 0))), (q5, .inl (d0, 5, .inl (fun _ => 0)))] := hD
  refine lv_aload_n hx hb dX0_init_47 rfl (lv_at hl 0 rfl) ?_
  refine lv_iconst (v := 4) hx hb dX0_init_48 (by decide) ?_
  refine va_newa (atype := .int) (a0 := (4, .inl (fun _ => 0))) hx hb (hts _ q64) rfl hK hP hD hS hA (fun _ => rfl) (by decide) (N' := 4) (by decide) (by decide) (Nat.le_of_ble_eq_true rfl) (Nat.le_of_ble_eq_true rfl) dX0_init_49 (fun q6 d6 H hK hP hD hS => ?_)
  obtain rfl := ha_sameI hK (i := 0) (j := 1) (a := d0) (b := d6) rfl rfl
  have hK : va_K (dC, dI) vwCl [(d0, .int)] s := hK.sub [0] rfl
  have hP : va_P (dC, dI) vwCl [(h, .inr (0, [.ref q0, .ref q1, .ref q2, .ref q3, .ref q4, .ref q5, .null, .null, .null, .null, .int 0, .int 0, .int 0])), (q0, .inl (d0, 64, .inl (fun _ => 0))), (q1, .inl (d0, 4, .inl (fun _ => 0))), (q2, .inl (d0, 5, .inl (fun _ => 0))), (q3, .inl (d0, 5, .inl (fun _ => 0))), (q4, .inl (d0, 5, .inl (fun _ => 0))), (q5, .inl (d0, 5, .inl (fun _ => 0))), (q6, .inl (d0, 4, .inl (fun _ => 0)))] H := hP
  have hD : va_D A [(h, .inr (0, [.ref q0, .ref q1, .ref q2, .ref q3, .ref q4, .ref q5, .null, .null, .null, .null, .int 0, .int 0, .int 0])), (q0, .inl (d0, 64, .inl (fun _ => 0))), (q1, .inl (d0, 4, .inl (fun _ => 0))), (q2, .inl (d0, 5, .inl (fun _ => 0))), (q3, .inl (d0, 5, .inl (fun _ => 0))), (q4, .inl (d0, 5, .inl (fun _ => 0))), (q5, .inl (d0, 5, .inl (fun _ => 0))), (q6, .inl (d0, 4, .inl (fun _ => 0)))] := hD
  refine W.widen (k := 7) (n := 92) (by omega) (by omega) ?_
  refine va_putF (D := (dC, dI)) (ci := 0) (v := .ref q6) (ty := .array .int) (C := RX0) (T := TX0) (N := 13) hx hb hts in_X0 tyX0 tyX0_ok nmX0 hown hK hP hD hS 0 rfl rfl 6 (by decide) (hts _ q30) (fun _ h9 => h9) rfl hin rfl (by decide +kernel) rfl rfl (Nat.le_of_ble_eq_true rfl) dX0_init_51 (fun H locs hP hD hS => ?_)
  have hP : va_P (dC, dI) vwCl [(h, .inr (0, [.ref q0, .ref q1, .ref q2, .ref q3, .ref q4, .ref q5, .ref q6, .null, .null, .null, .int 0, .int 0, .int 0])), (q0, .inl (d0, 64, .inl (fun _ => 0))), (q1, .inl (d0, 4, .inl (fun _ => 0))), (q2, .inl (d0, 5, .inl (fun _ => 0))), (q3, .inl (d0, 5, .inl (fun _ => 0))), (q4, .inl (d0, 5, .inl (fun _ => 0))), (q5, .inl (d0, 5, .inl (fun _ => 0))), (q6, .inl (d0, 4, .inl (fun _ => 0)))] H := hP
  have hD : va_D A [(h, .inr (0, [.ref q0, .ref q1, .ref q2, .ref q3, .ref q4, .ref q5, .ref q6, .null, .null, .null, .int 0, .int 0, .int 0])), (q0, .inl (d0, 64, .inl (fun _ => 0))), (q1, .inl (d0, 4, .inl (fun _ => 0))), (q2, .inl (d0, 5, .inl (fun _ => 0))), (q3, .inl (d0, 5, .inl (fun _ => 0))), (q4, .inl (d0, 5, .inl (fun _ => 0))), (q5, .inl (d0, 5, .inl (fun _ => 0))), (q6, .inl (d0, 4, .inl (fun _ => 0)))] := hD
  refine lv_aload_n hx hb dX0_init_54 rfl (lv_at hl 0 rfl) ?_
  refine lv_iconst (v := 4) hx hb dX0_init_55 (by decide) ?_
  refine va_newa (atype := .int) (a0 := (4, .inl (fun _ => 0))) hx hb (hts _ q64) rfl hK hP hD hS hA (fun _ => rfl) (by decide) (N' := 4) (by decide) (by decide) (Nat.le_of_ble_eq_true rfl) (Nat.le_of_ble_eq_true rfl) dX0_init_56 (fun q7 d7 H hK hP hD hS => ?_)
  obtain rfl := ha_sameI hK (i := 0) (j := 1) (a := d0) (b := d7) rfl rfl
  have hK : va_K (dC, dI) vwCl [(d0, .int)] s := hK.sub [0] rfl
  have hP : va_P (dC, dI) vwCl [(h, .inr (0, [.ref q0, .ref q1, .ref q2, .ref q3, .ref q4, .ref q5, .ref q6, .null, .null, .null, .int 0, .int 0, .int 0])), (q0, .inl (d0, 64, .inl (fun _ => 0))), (q1, .inl (d0, 4, .inl (fun _ => 0))), (q2, .inl (d0, 5, .inl (fun _ => 0))), (q3, .inl (d0, 5, .inl (fun _ => 0))), (q4, .inl (d0, 5, .inl (fun _ => 0))), (q5, .inl (d0, 5, .inl (fun _ => 0))), (q6, .inl (d0, 4, .inl (fun _ => 0))), (q7, .inl (d0, 4, .inl (fun _ => 0)))] H := hP
  have hD : va_D A [(h, .inr (0, [.ref q0, .ref q1, .ref q2, .ref q3, .ref q4, .ref q5, .ref q6, .null, .null, .null, .int 0, .int 0, .int 0])), (q0, .inl (d0, 64, .inl (fun _ => 0))), (q1, .inl (d0, 4, .inl (fun _ => 0))), (q2, .inl (d0, 5, .inl (fun _ => 0))), (q3, .inl (d0, 5, .inl (fun _ => 0))), (q4, .inl (d0, 5, .inl (fun _ => 0))), (q5, .inl (d0, 5, .inl (fun _ => 0))), (q6, .inl (d0, 4, .inl (fun _ => 0))), (q7, .inl (d0, 4, .inl (fun _ => 0)))] := hD
  refine W.widen (k := 8) (n := 96) (by omega) (by omega) ?_
  refine va_putF (D := (dC, dI)) (ci := 0) (v := .ref q7) (ty := .array .int) (C := RX0) (T := TX0) (N := 13) hx hb hts in_X0 tyX0 tyX0_ok nmX0 hown hK hP hD hS 0 rfl rfl 7 (by decide) (hts _ q31) (fun _ h9 => h9) rfl hin rfl (by decide +kernel) rfl rfl (Nat.le_of_ble_eq_true rfl) dX0_init_58 (fun H locs hP hD hS => ?_)
  have hP : va_P (dC, dI) vwCl [(h, .inr (0, [.ref q0, .ref q1, .ref q2, .ref q3, .ref q4, .ref q5, .ref q6, .ref q7, .null, .null, .int 0, .int 0, .int 0])), (q0, .inl (d0, 64, .inl (fun _ => 0))), (q1, .inl (d0, 4, .inl (fun _ => 0))), (q2, .inl (d0, 5, .inl (fun _ => 0))), (q3, .inl (d0, 5, .inl (fun _ => 0))), (q4, .inl (d0, 5, .inl (fun _ => 0))), (q5, .inl (d0, 5, .inl (fun _ => 0))), (q6, .inl (d0, 4, .inl (fun _ => 0))), (q7, .inl (d0, 4, .inl (fun _ => 0)))] H := hP
  have hD : va_D A [(h, .inr (0, [.ref q0, .ref q1, .ref q2, .ref q3, .ref q4, .ref q5, .ref q6, .ref q7, .null, .null, .int 0, .int 0, .int 0])), (q0, .inl (d0, 64, .inl (fun _ => 0))), (q1, .inl (d0, 4, .inl (fun _ => 0))), (q2, .inl (d0, 5, .inl (fun _ => 0))), (q3, .inl (d0, 5, .inl (fun _ => 0))), (q4, .inl (d0, 5, .inl (fun _ => 0))), (q5, .inl (d0, 5, .inl (fun _ => 0))), (q6, .inl (d0, 4, .inl (fun _ => 0))), (q7, .inl (d0, 4, .inl (fun _ => 0)))] := hD
  refine lv_aload_n hx hb dX0_init_61 rfl (lv_at hl 0 rfl) ?_
  refine lv_bipush (v := 15) hx hb dX0_init_62 (by decide) ?_
  refine va_newa (atype := .int) (a0 := (15, .inl (fun _ => 0))) hx hb (hts _ q64) rfl hK hP hD hS hA (fun _ => rfl) (by decide) (N' := 15) (by decide) (by decide) (Nat.le_of_ble_eq_true rfl) (Nat.le_of_ble_eq_true rfl) dX0_init_64 (fun q8 d8 H hK hP hD hS => ?_)
  obtain rfl := ha_sameI hK (i := 0) (j := 1) (a := d0) (b := d8) rfl rfl
  have hK : va_K (dC, dI) vwCl [(d0, .int)] s := hK.sub [0] rfl
  have hP : va_P (dC, dI) vwCl [(h, .inr (0, [.ref q0, .ref q1, .ref q2, .ref q3, .ref q4, .ref q5, .ref q6, .ref q7, .null, .null, .int 0, .int 0, .int 0])), (q0, .inl (d0, 64, .inl (fun _ => 0))), (q1, .inl (d0, 4, .inl (fun _ => 0))), (q2, .inl (d0, 5, .inl (fun _ => 0))), (q3, .inl (d0, 5, .inl (fun _ => 0))), (q4, .inl (d0, 5, .inl (fun _ => 0))), (q5, .inl (d0, 5, .inl (fun _ => 0))), (q6, .inl (d0, 4, .inl (fun _ => 0))), (q7, .inl (d0, 4, .inl (fun _ => 0))), (q8, .inl (d0, 15, .inl (fun _ => 0)))] H := hP
  have hD : va_D A [(h, .inr (0, [.ref q0, .ref q1, .ref q2, .ref q3, .ref q4, .ref q5, .ref q6, .ref q7, .null, .null, .int 0, .int 0, .int 0])), (q0, .inl (d0, 64, .inl (fun _ => 0))), (q1, .inl (d0, 4, .inl (fun _ => 0))), (q2, .inl (d0, 5, .inl (fun _ => 0))), (q3, .inl (d0, 5, .inl (fun _ => 0))), (q4, .inl (d0, 5, .inl (fun _ => 0))), (q5, .inl (d0, 5, .inl (fun _ => 0))), (q6, .inl (d0, 4, .inl (fun _ => 0))), (q7, .inl (d0, 4, .inl (fun _ => 0))), (q8, .inl (d0, 15, .inl (fun _ => 0)))] := hD
  refine W.widen (k := 9) (n := 111) (by omega) (by omega) ?_
  refine va_putF (D := (dC, dI)) (ci := 0) (v := .ref q8) (ty := .array .int) (C := RX0) (T := TX0) (N := 13) hx hb hts in_X0 tyX0 tyX0_ok nmX0 hown hK hP hD hS 0 rfl rfl 8 (by decide) (hts _ q32) (fun _ h9 => h9) rfl hin rfl (by decide +kernel) rfl rfl (Nat.le_of_ble_eq_true rfl) dX0_init_66 (fun H locs hP hD hS => ?_)
  have hP : va_P (dC, dI) vwCl [(h, .inr (0, [.ref q0, .ref q1, .ref q2, .ref q3, .ref q4, .ref q5, .ref q6, .ref q7, .ref q8, .null, .int 0, .int 0, .int 0])), (q0, .inl (d0, 64, .inl (fun _ => 0))), (q1, .inl (d0, 4, .inl (fun _ => 0))), (q2, .inl (d0, 5, .inl (fun _ => 0))), (q3, .inl (d0, 5, .inl (fun _ => 0))), (q4, .inl (d0, 5, .inl (fun _ => 0))), (q5, .inl (d0, 5, .inl (fun _ => 0))), (q6, .inl (d0, 4, .inl (fun _ => 0))), (q7, .inl (d0, 4, .inl (fun _ => 0))), (q8, .inl (d0, 15, .inl (fun _ => 0)))] H := hP
  have hD : va_D A [(h, .inr (0, [.ref q0, .ref q1, .ref q2, .ref q3, .ref q4, .ref q5, .ref q6, .ref q7, .ref q8, .null, .int 0, .int 0, .int 0])), (q0, .inl (d0, 64, .inl (fun _ => 0))), (q1, .inl (d0, 4, .inl (fun _ => 0))), (q2, .inl (d0, 5, .inl (fun _ => 0))), (q3, .inl (d0, 5, .inl (fun _ => 0))), (q4, .inl (d0, 5, .inl (fun _ => 0))), (q5, .inl (d0, 5, .inl (fun _ => 0))), (q6, .inl (d0, 4, .inl (fun _ => 0))), (q7, .inl (d0, 4, .inl (fun _ => 0))), (q8, .inl (d0, 15, .inl (fun _ => 0)))] := hD
  refine lv_aload_n hx hb dX0_init_69 rfl (lv_at hl 0 rfl) ?_
  refine lv_bipush (v := 15) hx hb dX0_init_70 (by decide) ?_
  refine va_newa (atype := .boolean) (a0 := (15, .inl (fun _ => 0))) hx hb (hts _ q65) rfl hK hP hD hS hA (fun _ => rfl) (by decide) (N' := 15) (by decide) (by decide) (Nat.le_of_ble_eq_true rfl) (Nat.le_of_ble_eq_true rfl) dX0_init_72 (fun q9 d9 H hK hP hD hS => ?_)
  have hK : va_K (dC, dI) vwCl [(d0, .int), (d9, .boolean)] s := hK
  have hP : va_P (dC, dI) vwCl [(h, .inr (0, [.ref q0, .ref q1, .ref q2, .ref q3, .ref q4, .ref q5, .ref q6, .ref q7, .ref q8, .null, .int 0, .int 0, .int 0])), (q0, .inl (d0, 64, .inl (fun _ => 0))), (q1, .inl (d0, 4, .inl (fun _ => 0))), (q2, .inl (d0, 5, .inl (fun _ => 0))), (q3, .inl (d0, 5, .inl (fun _ => 0))), (q4, .inl (d0, 5, .inl (fun _ => 0))), (q5, .inl (d0, 5, .inl (fun _ => 0))), (q6, .inl (d0, 4, .inl (fun _ => 0))), (q7, .inl (d0, 4, .inl (fun _ => 0))), (q8, .inl (d0, 15, .inl (fun _ => 0))), (q9, .inl (d9, 15, .inl (fun _ => 0)))] H := hP
  have hD : va_D A [(h, .inr (0, [.ref q0, .ref q1, .ref q2, .ref q3, .ref q4, .ref q5, .ref q6, .ref q7, .ref q8, .null, .int 0, .int 0, .int 0])), (q0, .inl (d0, 64, .inl (fun _ => 0))), (q1, .inl (d0, 4, .inl (fun _ => 0))), (q2, .inl (d0, 5, .inl (fun _ => 0))), (q3, .inl (d0, 5, .inl (fun _ => 0))), (q4, .inl (d0, 5, .inl (fun _ => 0))), (q5, .inl (d0, 5, .inl (fun _ => 0))), (q6, .inl (d0, 4, .inl (fun _ => 0))), (q7, .inl (d0, 4, .inl (fun _ => 0))), (q8, .inl (d0, 15, .inl (fun _ => 0))), (q9, .inl (d9, 15, .inl (fun _ => 0)))] := hD
  refine W.widen (k := 10) (n := 126) (by omega) (by omega) ?_
  refine va_putF (D := (dC, dI)) (ci := 0) (v := .ref q9) (ty := .array .boolean) (C := RX0) (T := TX0) (N := 13) hx hb hts in_X0 tyX0 tyX0_ok nmX0 hown hK hP hD hS 0 rfl rfl 9 (by decide) (hts _ q33) (fun _ h9 => h9) rfl hin rfl (by decide +kernel) rfl rfl (Nat.le_of_ble_eq_true rfl) dX0_init_74 (fun H locs hP hD hS => ?_)
  have hP : va_P (dC, dI) vwCl [(h, .inr (0, [.ref q0, .ref q1, .ref q2, .ref q3, .ref q4, .ref q5, .ref q6, .ref q7, .ref q8, .ref q9, .int 0, .int 0, .int 0])), (q0, .inl (d0, 64, .inl (fun _ => 0))), (q1, .inl (d0, 4, .inl (fun _ => 0))), (q2, .inl (d0, 5, .inl (fun _ => 0))), (q3, .inl (d0, 5, .inl (fun _ => 0))), (q4, .inl (d0, 5, .inl (fun _ => 0))), (q5, .inl (d0, 5, .inl (fun _ => 0))), (q6, .inl (d0, 4, .inl (fun _ => 0))), (q7, .inl (d0, 4, .inl (fun _ => 0))), (q8, .inl (d0, 15, .inl (fun _ => 0))), (q9, .inl (d9, 15, .inl (fun _ => 0)))] H := hP
  have hD : va_D A [(h, .inr (0, [.ref q0, .ref q1, .ref q2, .ref q3, .ref q4, .ref q5, .ref q6, .ref q7, .ref q8, .ref q9, .int 0, .int 0, .int 0])), (q0, .inl (d0, 64, .inl (fun _ => 0))), (q1, .inl (d0, 4, .inl (fun _ => 0))), (q2, .inl (d0, 5, .inl (fun _ => 0))), (q3, .inl (d0, 5, .inl (fun _ => 0))), (q4, .inl (d0, 5, .inl (fun _ => 0))), (q5, .inl (d0, 5, .inl (fun _ => 0))), (q6, .inl (d0, 4, .inl (fun _ => 0))), (q7, .inl (d0, 4, .inl (fun _ => 0))), (q8, .inl (d0, 15, .inl (fun _ => 0))), (q9, .inl (d9, 15, .inl (fun _ => 0)))] := hD
  refine lv_aload_n hx hb dX0_init_77 rfl (lv_at hl 0 rfl) ?_
  refine lv_iconst (v := 0) hx hb dX0_init_78 (by decide) ?_
  refine va_put (D := (dC, dI)) (ci := 0) (v := .int 0) (ty := .int) (C := RX0) (T := TX0) (N := 13) hx hb hts in_X0 tyX0 tyX0_ok nmX0 hown hK hP hD hS 0 rfl rfl 10 (by decide) (hts _ q34) (fun _ h9 => h9) rfl (by decide +kernel) rfl rfl (Nat.le_of_ble_eq_true rfl) dX0_init_79 (fun H locs hP hD hS => ?_)
  have hP : va_P (dC, dI) vwCl [(h, .inr (0, [.ref q0, .ref q1, .ref q2, .ref q3, .ref q4, .ref q5, .ref q6, .ref q7, .ref q8, .ref q9, .int 0, .int 0, .int 0])), (q0, .inl (d0, 64, .inl (fun _ => 0))), (q1, .inl (d0, 4, .inl (fun _ => 0))), (q2, .inl (d0, 5, .inl (fun _ => 0))), (q3, .inl (d0, 5, .inl (fun _ => 0))), (q4, .inl (d0, 5, .inl (fun _ => 0))), (q5, .inl (d0, 5, .inl (fun _ => 0))), (q6, .inl (d0, 4, .inl (fun _ => 0))), (q7, .inl (d0, 4, .inl (fun _ => 0))), (q8, .inl (d0, 15, .inl (fun _ => 0))), (q9, .inl (d9, 15, .inl (fun _ => 0)))] H := hP
  have hD : va_D A [(h, .inr (0, [.ref q0, .ref q1, .ref q2, .ref q3, .ref q4, .ref q5, .ref q6, .ref q7, .ref q8, .ref q9, .int 0, .int 0, .int 0])), (q0, .inl (d0, 64, .inl (fun _ => 0))), (q1, .inl (d0, 4, .inl (fun _ => 0))), (q2, .inl (d0, 5, .inl (fun _ => 0))), (q3, .inl (d0, 5, .inl (fun _ => 0))), (q4, .inl (d0, 5, .inl (fun _ => 0))), (q5, .inl (d0, 5, .inl (fun _ => 0))), (q6, .inl (d0, 4, .inl (fun _ => 0))), (q7, .inl (d0, 4, .inl (fun _ => 0))), (q8, .inl (d0, 15, .inl (fun _ => 0))), (q9, .inl (d9, 15, .inl (fun _ => 0)))] := hD
  exact W.vret hx hb hr (fun t ht hW => ⟨⟨(d0, d9, fun k => [q0, q1, q2, q3, q4, q5, q6, q7, q8, q9].getD k 0), rfl, trivial, by rw [ht]; exact hP, va_K.moved hW.alike hK, hD⟩, hS.F ht⟩) hS.2.2 dX0_init_82
set_option maxHeartbeats 4000000 in
set_option maxRecDepth 100000 in
/-- the constructor: new arrays of zeros -/
theorem metX1_init (l : Launch) (dC : Nat → ClassId) (dI : Nat → Nat → Nat) (h sz : Nat) : Met l yX1_init (ws_ yX1_init cX1_init 1 none) ({ frames := 1, cells := 6, slots := 88, locals := 12 }) (ha_M dC dI [.ref h] sz ([(h, .inr (1, [.null, .null, .int 0, .int 0, .null, .null, .null, .null]))]) []) (va_Qv (S := ClassId × (Nat → Nat)) (fun _ => True) (fun y t => ha_B dC dI (va_A ([(h, .inr (1, [.null, .null, .int 0, .int 0, .null, .null, .null, .null]))]) sz) (mw y.1 h y.2 (fun _ => 0) (fun _ => 0) (fun _ => 0) (fun _ => 0) (fun _ => 0) (fun _ => 0) 0 0) (mT y.1) t) (va_A ([(h, .inr (1, [.null, .null, .int 0, .int 0, .null, .null, .null, .null]))]) sz)) 6 88 (va_A ([(h, .inr (1, [.null, .null, .int 0, .int 0, .null, .null, .null, .null]))]) sz) := by
  refine Met.ofW (cc := cX1_init) (maxL := 1) (ret := none) (by decide) rfl ?_
  intro p e s m args below meth c s₁ B hml hv
  obtain ⟨rfl, hsz, hP, hK, hD0⟩ := hv
  have hx := B.exec
  have hb := B.bytes
  have hr := B.returns
  have hts := atoms_spec (ws := ws_ yX1_init cX1_init 1 none) B.pre
  have hts : ∀ w ∈ lw_all, w.before _ s = true := fun w h => hts w (List.mem_cons_of_mem _ h)
  have hown : s.vm.findClass RX1 = some m.cls := findClass_of_methodNamed B.named
  have hlocks := B.notSynchronized
  have hin : meth.name = "<init>" := (name_of_methodNamed B.named B.method).1
  subst hsz
  have hD := hD0.self (sz := s.heap.size)
  generalize hAe : va_A ([(h, .inr (1, [.null, .null, .int 0, .int 0, .null, .null, .null, .null]))]) s.heap.size = A at hD ⊢
  have hA : ∀ q : Nat, s.heap.size ≤ q → A q := fun q h => by rw [← hAe]; exact Or.inr h
  have hS : va_S A s.heap s.heap [] := va_S.rf
  have hl := lv_entry ([.ref h]) (n := 1) (Nat.le_of_ble_eq_true rfl)
  rw [lg_entry_eq]
  generalize (lg_sl ([.ref h]) ++ List.replicate (1 - (lg_sl ([.ref h])).length) Slot.unset).toArray = ls at hl ⊢
  have hl : lv_has ls 1 [(0, .ref h)] := hl
  refine lv_aload_n hx hb dX1_init_0 rfl (lv_at hl 0 rfl) ?_
  refine W.objInit hx hb hown (hts _ q186) (hts _ q22) (hts _ q23) rfl (by rw [hml]; exact hl.1) rfl dX1_init_1 (Nat.le_of_ble_eq_true rfl) (Nat.le_of_ble_eq_true rfl) ?_
  refine W.eq (g2 := F0 m 4 ls []) rfl ?_
  refine lv_aload_n hx hb dX1_init_4 rfl (lv_at hl 0 rfl) ?_
  refine lv_bipush (v := 64) hx hb dX1_init_5 (by decide) ?_
  refine va_newa (atype := .int) (a0 := (64, .inl (fun _ => 0))) hx hb (hts _ q64) rfl hK hP hD hS hA (fun _ => rfl) (by decide) (N' := 64) (by decide) (by decide) (Nat.le_of_ble_eq_true rfl) (Nat.le_of_ble_eq_true rfl) dX1_init_7 (fun q0 d0 H hK hP hD hS => ?_)
  have hK : va_K (dC, dI) vwCl [(d0, .int)] s := hK
  have hP : va_P (dC, dI) vwCl [(h, .inr (1, [.null, .null, .int 0, .int 0, .null, .null, .null, .null])), (q0, .inl (d0, 64, .inl (fun _ => 0)))] H := hP
  have hD : va_D A [(h, .inr (1, [.null, .null, .int 0, .int 0, .null, .null, .null, .null])), (q0, .inl (d0, 64, .inl (fun _ => 0)))] := hD
  refine W.widen (k := 1) (n := 64) (by omega) (by omega) ?_
  refine va_put (D := (dC, dI)) (ci := 1) (v := .ref q0) (ty := .array .int) (C := RX1) (T := TX1) (N := 8) hx hb hts in_X1 tyX1 tyX1_ok nmX1 hown hK hP hD hS 0 rfl rfl 0 (by decide) (hts _ q187) (fun _ h9 => h9) rfl (by decide +kernel) rfl rfl (Nat.le_of_ble_eq_true rfl) dX1_init_9 (fun H locs hP hD hS => ?_)
  have hP : va_P (dC, dI) vwCl [(h, .inr (1, [.ref q0, .null, .int 0, .int 0, .null, .null, .null, .null])), (q0, .inl (d0, 64, .inl (fun _ => 0)))] H := hP
  have hD : va_D A [(h, .inr (1, [.ref q0, .null, .int 0, .int 0, .null, .null, .null, .null])), (q0, .inl (d0, 64, .inl (fun _ => 0)))] := hD
  refine lv_aload_n hx hb dX1_init_12 rfl (lv_at hl 0 rfl) ?_
  refine lv_iconst (v := 4) hx hb dX1_init_13 (by decide) ?_
  refine va_newa (atype := .int) (a0 := (4, .inl (fun _ => 0))) hx hb (hts _ q64) rfl hK hP hD hS hA (fun _ => rfl) (by decide) (N' := 4) (by decide) (by decide) (Nat.le_of_ble_eq_true rfl) (Nat.le_of_ble_eq_true rfl) dX1_init_14 (fun q1 d1 H hK hP hD hS => ?_)
  obtain rfl := ha_sameI hK (i := 0) (j := 1) (a := d0) (b := d1) rfl rfl
  have hK : va_K (dC, dI) vwCl [(d0, .int)] s := hK.sub [0] rfl
  have hP : va_P (dC, dI) vwCl [(h, .inr (1, [.ref q0, .null, .int 0, .int 0, .null, .null, .null, .null])), (q0, .inl (d0, 64, .inl (fun _ => 0))), (q1, .inl (d0, 4, .inl (fun _ => 0)))] H := hP
  have hD : va_D A [(h, .inr (1, [.ref q0, .null, .int 0, .int 0, .null, .null, .null, .null])), (q0, .inl (d0, 64, .inl (fun _ => 0))), (q1, .inl (d0, 4, .inl (fun _ => 0)))] := hD
  refine W.widen (k := 2) (n := 68) (by omega) (by omega) ?_
  refine va_put (D := (dC, dI)) (ci := 1) (v := .ref q1) (ty := .array .int) (C := RX1) (T := TX1) (N := 8) hx hb hts in_X1 tyX1 tyX1_ok nmX1 hown hK hP hD hS 0 rfl rfl 1 (by decide) (hts _ q188) (fun _ h9 => h9) rfl (by decide +kernel) rfl rfl (Nat.le_of_ble_eq_true rfl) dX1_init_16 (fun H locs hP hD hS => ?_)
  have hP : va_P (dC, dI) vwCl [(h, .inr (1, [.ref q0, .ref q1, .int 0, .int 0, .null, .null, .null, .null])), (q0, .inl (d0, 64, .inl (fun _ => 0))), (q1, .inl (d0, 4, .inl (fun _ => 0)))] H := hP
  have hD : va_D A [(h, .inr (1, [.ref q0, .ref q1, .int 0, .int 0, .null, .null, .null, .null])), (q0, .inl (d0, 64, .inl (fun _ => 0))), (q1, .inl (d0, 4, .inl (fun _ => 0)))] := hD
  refine lv_aload_n hx hb dX1_init_19 rfl (lv_at hl 0 rfl) ?_
  refine lv_iconst (v := 5) hx hb dX1_init_20 (by decide) ?_
  refine va_newa (atype := .int) (a0 := (5, .inl (fun _ => 0))) hx hb (hts _ q64) rfl hK hP hD hS hA (fun _ => rfl) (by decide) (N' := 5) (by decide) (by decide) (Nat.le_of_ble_eq_true rfl) (Nat.le_of_ble_eq_true rfl) dX1_init_21 (fun q2 d2 H hK hP hD hS => ?_)
  obtain rfl := ha_sameI hK (i := 0) (j := 1) (a := d0) (b := d2) rfl rfl
  have hK : va_K (dC, dI) vwCl [(d0, .int)] s := hK.sub [0] rfl
  have hP : va_P (dC, dI) vwCl [(h, .inr (1, [.ref q0, .ref q1, .int 0, .int 0, .null, .null, .null, .null])), (q0, .inl (d0, 64, .inl (fun _ => 0))), (q1, .inl (d0, 4, .inl (fun _ => 0))), (q2, .inl (d0, 5, .inl (fun _ => 0)))] H := hP
  have hD : va_D A [(h, .inr (1, [.ref q0, .ref q1, .int 0, .int 0, .null, .null, .null, .null])), (q0, .inl (d0, 64, .inl (fun _ => 0))), (q1, .inl (d0, 4, .inl (fun _ => 0))), (q2, .inl (d0, 5, .inl (fun _ => 0)))] := hD
  refine W.widen (k := 3) (n := 73) (by omega) (by omega) ?_
  refine va_put (D := (dC, dI)) (ci := 1) (v := .ref q2) (ty := .array .int) (C := RX1) (T := TX1) (N := 8) hx hb hts in_X1 tyX1 tyX1_ok nmX1 hown hK hP hD hS 0 rfl rfl 4 (by decide) (hts _ q191) (fun _ h9 => h9) rfl (by decide +kernel) rfl rfl (Nat.le_of_ble_eq_true rfl) dX1_init_23 (fun H locs hP hD hS => ?_)
  have hP : va_P (dC, dI) vwCl [(h, .inr (1, [.ref q0, .ref q1, .int 0, .int 0, .ref q2, .null, .null, .null])), (q0, .inl (d0, 64, .inl (fun _ => 0))), (q1, .inl (d0, 4, .inl (fun _ => 0))), (q2, .inl (d0, 5, .inl (fun _ => 0)))] H := hP
  have hD : va_D A [(h, .inr (1, [.ref q0, .ref q1, .int 0, .int 0, .ref q2, .null, .null, .null])), (q0, .inl (d0, 64, .inl (fun _ => 0))), (q1, .inl (d0, 4, .inl (fun _ => 0))), (q2, .inl (d0, 5, .inl (fun _ => 0)))] := hD
  refine lv_aload_n hx hb dX1_init_26 rfl (lv_at hl 0 rfl) ?_
  refine lv_iconst (v := 5) hx hb dX1_init_27 (by decide) ?_
  refine va_newa (atype := .int) (a0 := (5, .inl (fun _ => 0))) hx hb (hts _ q64) rfl hK hP hD hS hA (fun _ => rfl) (by decide) (N' := 5) (by decide) (by decide) (Nat.le_of_ble_eq_true rfl) (Nat.le_of_ble_eq_true rfl) dX1_init_28 (fun q3 d3 H hK hP hD hS => ?_)
  obtain rfl := ha_sameI hK (i := 0) (j := 1) (a := d0) (b := d3) rfl rfl
  have hK : va_K (dC, dI) vwCl [(d0, .int)] s := hK.sub [0] rfl
  have hP : va_P (dC, dI) vwCl [(h, .inr (1, [.ref q0, .ref q1, .int 0, .int 0, .ref q2, .null, .null, .null])), (q0, .inl (d0, 64, .inl (fun _ => 0))), (q1, .inl (d0, 4, .inl (fun _ => 0))), (q2, .inl (d0, 5, .inl (fun _ => 0))), (q3, .inl (d0, 5, .inl (fun _ => 0)))] H := hP
  have hD : va_D A [(h, .inr (1, [.ref q0, .ref q1, .int 0, .int 0, .ref q2, .null, .null, .null])), (q0, .inl (d0, 64, .inl (fun _ => 0))), (q1, .inl (d0, 4, .inl (fun _ => 0))), (q2, .inl (d0, 5, .inl (fun _ => 0))), (q3, .inl (d0, 5, .inl (fun _ => 0)))] := hD
  refine W.widen (k := 4) (n := 78) (by omega) (by omega) ?_
  refine va_put (D := (dC, dI)) (ci := 1) (v := .ref q3) (ty := .array .int) (C := RX1) (T := TX1) (N := 8) hx hb hts in_X1 tyX1 tyX1_ok nmX1 hown hK hP hD hS 0 rfl rfl 5 (by decide) (hts _ q192) (fun _ h9 => h9) rfl (by decide +kernel) rfl rfl (Nat.le_of_ble_eq_true rfl) dX1_init_30 (fun H locs hP hD hS => ?_)
  have hP : va_P (dC, dI) vwCl [(h, .inr (1, [.ref q0, .ref q1, .int 0, .int 0, .ref q2, .ref q3, .null, .null])), (q0, .inl (d0, 64, .inl (fun _ => 0))), (q1, .inl (d0, 4, .inl (fun _ => 0))), (q2, .inl (d0, 5, .inl (fun _ => 0))), (q3, .inl (d0, 5, .inl (fun _ => 0)))] H := hP
  have hD : va_D A [(h, .inr (1, [.ref q0, .ref q1, .int 0, .int 0, .ref q2, .ref q3, .null, .null])), (q0, .inl (d0, 64, .inl (fun _ => 0))), (q1, .inl (d0, 4, .inl (fun _ => 0))), (q2, .inl (d0, 5, .inl (fun _ => 0))), (q3, .inl (d0, 5, .inl (fun _ => 0)))] := hD
  refine lv_aload_n hx hb dX1_init_33 rfl (lv_at hl 0 rfl) ?_
  refine lv_iconst (v := 5) hx hb dX1_init_34 (by decide) ?_
  refine va_newa (atype := .int) (a0 := (5, .inl (fun _ => 0))) hx hb (hts _ q64) rfl hK hP hD hS hA (fun _ => rfl) (by decide) (N' := 5) (by decide) (by decide) (Nat.le_of_ble_eq_true rfl) (Nat.le_of_ble_eq_true rfl) dX1_init_35 (fun q4 d4 H hK hP hD hS => ?_)
  obtain rfl := ha_sameI hK (i := 0) (j := 1) (a := d0) (b := d4) rfl rfl
  have hK : va_K (dC, dI) vwCl [(d0, .int)] s := hK.sub [0] rfl
  have hP : va_P (dC, dI) vwCl [(h, .inr (1, [.ref q0, .ref q1, .int 0, .int 0, .ref q2, .ref q3, .null, .null])), (q0, .inl (d0, 64, .inl (fun _ => 0))), (q1, .inl (d0, 4, .inl (fun _ => 0))), (q2, .inl (d0, 5, .inl (fun _ => 0))), (q3, .inl (d0, 5, .inl (fun _ => 0))), (q4, .inl (d0, 5, .inl (fun _ => 0)))] H := hP
  have hD : va_D A [(h, .inr (1, [.ref q0, .ref q1, .int 0, .int 0, .ref q2, .ref q3, .null, .null])), (q0, .inl (d0, 64, .inl (fun _ => 0))), (q1, .inl (d0, 4, .inl (fun _ => 0))), (q2, .inl (d0, 5, .inl (fun _ => 0))), (q3, .inl (d0, 5, .inl (fun _ => 0))), (q4, .inl (d0, 5, .inl (fun _ => 0)))] := hD
  refine W.widen (k := 5) (n := 83) (by omega) (by omega) ?_
  refine va_put (D := (dC, dI)) (ci := 1) (v := .ref q4) (ty := .array .int) (C := RX1) (T := TX1) (N := 8) hx hb hts in_X1 tyX1 tyX1_ok nmX1 hown hK hP hD hS 0 rfl rfl 6 (by decide) (hts _ q193) (fun _ h9 => h9) rfl (by decide +kernel) rfl rfl (Nat.le_of_ble_eq_true rfl) dX1_init_37 (fun H locs hP hD hS => ?_)
  have hP : va_P (dC, dI) vwCl [(h, .inr (1, [.ref q0, .ref q1, .int 0, .int 0, .ref q2, .ref q3, .ref q4, .null])), (q0, .inl (d0, 64, .inl (fun _ => 0))), (q1, .inl (d0, 4, .inl (fun _ => 0))), (q2, .inl (d0, 5, .inl (fun _ => 0))), (q3, .inl (d0, 5, .inl (fun _ => 0))), (q4, .inl (d0, 5, .inl (fun _ => 0)))] H := hP
  have hD : va_D A [(h, .inr (1, [.ref q0, .ref q1, .int 0, .int 0, .ref q2, .ref q3, .ref q4, .null])), (q0, .inl (d0, 64, .inl (fun _ => 0))), (q1, .inl (d0, 4, .inl (fun _ => 0))), (q2, .inl (d0, 5, .inl (fun _ => 0))), (q3, .inl (d0, 5, .inl (fun _ => 0))), (q4, .inl (d0, 5, .inl (fun _ => 0)))] := hD
  refine lv_aload_n hx hb dX1_init_40 rfl (lv_at hl 0 rfl) ?_
  refine lv_iconst (v := 5) hx hb dX1_init_41 (by decide) ?_
  refine va_newa (atype := .int) (a0 := (5, .inl (fun _ => 0))) hx hb (hts _ q64) rfl hK hP hD hS hA (fun _ => rfl) (by decide) (N' := 5) (by decide) (by decide) (Nat.le_of_ble_eq_true rfl) (Nat.le_of_ble_eq_true rfl) dX1_init_42 (fun q5 d5 H hK hP hD hS => ?_)
  obtain rfl := ha_sameI hK (i := 0) (j := 1) (a := d0) (b := d5) rfl rfl
  have hK : va_K (dC, dI) vwCl [(d0, .int)] s := hK.sub [0] rfl
  have hP : va_P (dC, dI) vwCl [(h, .inr (1, [.ref q0, .ref q1, .int 0, .int 0, .ref q2, .ref q3, .ref q4, .null])), (q0, .inl (d0, 64, .inl (fun _ => 0))), (q1, .inl (d0, 4, .inl (fun _ => 0))), (q2, .inl (d0, 5, .inl (fun _ => 0))), (q3, .inl (d0, 5, .inl (fun _ => 0))), (q4, .inl (d0, 5, .inl (fun _ => 0))), (q5, .inl (d0, 5, .inl (fun _ => 0)))] H := hP
  have hD : va_D A [(h, .inr (1, [.ref q0, .ref q1, .int 0, .int 0, .ref q2, .ref q3, .ref q4, .null])), (q0, .inl (d0, 64, .inl (fun _ => 0))), (q1, .inl (d0, 4, .inl (fun _ => 0))), (q2, .inl (d0, 5, .inl (fun _ => 0))), (q3, .inl (d0, 5, .inl (fun _ => 0))), (q4, .inl (d0, 5, .inl (fun _ => 0))), (q5, .inl (d0, 5, .inl (fun _ => 0)))] := hD
  refine W.widen (k := 6) (n := 88) (by omega) (by omega) ?_
  refine va_put (D := (dC, dI)) (ci := 1) (v := .ref q5) (ty := .array .int) (C := RX1) (T := TX1) (N := 8) hx hb hts in_X1 tyX1 tyX1_ok nmX1 hown hK hP hD hS 0 rfl rfl 7 (by decide) (hts _ q194) (fun _ h9 => h9) rfl (by decide +kernel) rfl rfl (Nat.le_of_ble_eq_true rfl) dX1_init_44 (fun H locs hP hD hS => ?_)
  have hP : va_P (dC, dI) vwCl [(h, .inr (1, [.ref q0, .ref q1, .int 0, .int 0, .ref q2, .ref q3, .ref q4, .ref q5])), (q0, .inl (d0, 64, .inl (fun _ => 0))), (q1, .inl (d0, 4, .inl (fun _ => 0))), (q2, .inl (d0, 5, .inl (fun _ => 0))), (q3, .inl (d0, 5, .inl (fun _ => 0))), (q4, .inl (d0, 5, .inl (fun _ => 0))), (q5, .inl (d0, 5, .inl (fun _ => 0)))] H := hP
  have hD : va_D A [(h, .inr (1, [.ref q0, .ref q1, .int 0, .int 0, .ref q2, .ref q3, .ref q4, .ref q5])), (q0, .inl (d0, 64, .inl (fun _ => 0))), (q1, .inl (d0, 4, .inl (fun _ => 0))), (q2, .inl (d0, 5, .inl (fun _ => 0))), (q3, .inl (d0, 5, .inl (fun _ => 0))), (q4, .inl (d0, 5, .inl (fun _ => 0))), (q5, .inl (d0, 5, .inl (fun _ => 0)))] := hD
  exact W.vret hx hb hr (fun t ht hW => ⟨⟨(d0, fun k => [q0, q1, q2, q3, q4, q5].getD k 0), rfl, trivial, by rw [ht]; exact hP, va_K.moved hW.alike hK, hD⟩, hS.F ht⟩) hS.2.2 dX1_init_47
end
section
set_option maxRecDepth 100000
/-! THE CLAIM OUT OF ONE WALK OF THE LAW'S BODY. Your part is whole_start (and what it stands on); all else here is the same for every law, but numbers. -/
def R_law : String := "LoopVersionerLaw"
def lw_P (b : Addr) (xs : List Int32) (args : Array Value) (s : State) : Prop := args = #[.ref b] ∧ s.IntsAt b xs ∧ xs.length ≤ 320 ∧ (Jvm.Cond.and given_1 narrow_1).before args s = true
def lw_Q (_ : Array Value) (s : State) (o : Outcome) (t : State) : Prop := o = .returned (some (.int 1)) ∧ Framed s o t [] 600000 7290000
def lw_Z (below : List Frame) (a : Array Value) (s : State) : State → Prop := fun t => ∃ o, t.status = .running ∧ Ended t below o ∧ lw_Q a s o t
/-- the law's own end, with 1 on the stack, nothing written that was there before, its room as the claim has it -/
theorem lw_ret {p : Program} {l : Launch} {e : Env} {s : State} {m : MethodId} {below : List Frame} {meth : Method} {c : Code} {b : Nat} (hx : p.tables.exec = Jvm.exec) (hb : c.code = code) (hr : meth.sig.returnType = ret) (hlocks : meth.locks = false) {pc : Nat} {H : Heap} {ls : Array Slot} (hdg : decode code pc = .ok (.ireturn, 1)) : W p l e room_1 s m #[Value.ref b] below meth c H [] 600000 7290000 (lw_Z below #[Value.ref b] s) (F0 m pc ls [.int 1]) := by
  intro T hT X
  obtain ⟨fs, hret, hrun, hended, hW, hframe⟩ := X.leave (v := some (.int 1)) (hlocks := hlocks) (fun h => by rw [hr] at h; cases h)
  have hmeth' : T.vm.method? m = some meth := X.method'
  refine ⟨T.setFrames fs, ?_, .returned (some (.int 1)), hrun, hended, rfl, ⟨_, rfl⟩, hW, hframe⟩
  jvm_step X.here [X.here.top, hx, hb, hdg, hmeth', hr, ret, narrow_b1]
  (try refine ⟨rfl, ?_⟩); (try refine ⟨rfl, ?_⟩)
  first | (intro acts; rw [hret _ acts rfl rfl rfl]) | rw [hret _ _ rfl rfl rfl]
  exact Steps.refl _
/-- what holds at the law's entry: the machine, the code, the tables' words (any of lw_tbl by 'hts w (by decide +kernel)'), the script of L ints xs at the cell b, what the Statement gives of the start (any of its parts by flat_of_before) -/
def lw_At (p : Program) (s : State) (m : MethodId) (meth : Method) (c : Code) (b L : Nat) (xs : Nat → Int32) : Prop :=
  p.tables.exec = Jvm.exec ∧ c.code = code ∧ meth.sig.returnType = ret ∧ c.maxLocals = 4 ∧ s.vm.findClass R_law = some m.cls ∧ (∀ w ∈ lw_tbl, w.before #[Value.ref b] s = true) ∧ va_X b L xs s s.heap ∧ b < s.heap.size ∧ meth.locks = false ∧ (Jvm.Cond.and given_1 narrow_1).before #[Value.ref b] s = true
theorem law_in0 {k L : Nat} (h : 5 * k + 5 ≤ L) (hL : L ≤ 320) : vp_in (nI (5 * k)) L := vp_in_nI (by omega) (by omega)
theorem law_in {k L j : Nat} (h : 5 * k + 5 ≤ L) (hL : L ≤ 320) (hj : j < 5) : vp_in (nI (5 * k) + nI j) L := by
  rw [nI_add]
  exact vp_in_nI (by omega) (by omega)
theorem law_more {k L : Nat} (hL : L ≤ 320) (hk : 5 * k ≤ L) (h : ¬ nI L - 5 < nI (5 * k)) : 5 * k + 5 ≤ L := by
  rw [fa_lt, show (5 : Int32) = nI 5 from rfl, pk_sub_toInt (by omega) (by omega), nI_toInt (by omega)] at h
  omega
end
section
set_option maxHeartbeats 4000000 in
set_option maxRecDepth 100000 in
/-- the law's call 0: statement -/
theorem law_c0 {p : Program} {l : Launch} {e : Env} {s : State} {m : MethodId} {below : List Frame} {meth : Method} {c : Code} {dC : Nat → ClassId} {dI : Nat → Nat → Nat} {dA dZ : ClassId} {b L ax am : Nat} {qx qm : Nat → Nat} {xs : Nat → Int32} (hL : L ≤ 320) (C0 : lw_At p s m meth c b L xs) (hK : va_K (dC, dI) vwCl (xT dA dZ) s) {k : Nat} (h5 : 5 * k + 5 ≤ L) {u : ha_U} {v : ha_V} (hI : aInv u) {H : Heap} {locs : List Loc} (hP : va_P (dC, dI) vwCl (xwU dA dZ ax qx u v ++ mwU dA am qm u) H) (hD : va_D (fun q : Nat => s.heap.size ≤ q) (xwU dA dZ ax qx u v ++ mwU dA am qm u)) (hS : va_S (fun q : Nat => s.heap.size ≤ q) s.heap H locs) {ls : Array Slot} (hl : lv_has ls 4 [(3, .int (nI (5 * k))), (0, .ref b), (1, .ref ax), (2, .ref am)])
    (K : ∀ (u : ha_U) (v : ha_V) (H : Heap) (locs : List Loc), aInv u → va_P (dC, dI) vwCl (xwU dA dZ ax qx u v ++ mwU dA am qm u) H → va_D (fun q : Nat => s.heap.size ≤ q) (xwU dA dZ ax qx u v ++ mwU dA am qm u) → va_S (fun q : Nat => s.heap.size ≤ q) s.heap H locs → W p l e room_1 s m #[Value.ref b] below meth c H locs 600000 7290000 (lw_Z below #[Value.ref b] s) (F0 m 523 ls [])) : W p l e room_1 s m #[Value.ref b] below meth c H locs 600000 7290000 (lw_Z below #[Value.ref b] s) (F0 m 108 ls []) := by
  obtain ⟨hx, hb, hr, hml, hown, hts0, hX, hbl, hlocks, hgv⟩ := C0
  have hts : ∀ w ∈ lw_all, w.before #[Value.ref b] s = true := fun w h => hts0 w (lw_all_tbl h)
  have hown : s.vm.findClass "LoopVersionerLaw" = some m.cls := hown
  have hA : ∀ q : Nat, s.heap.size ≤ q → (fun q : Nat => s.heap.size ≤ q) q := fun _ h => h
  have hbA : ¬ (fun q : Nat => s.heap.size ≤ q) b := Nat.not_le.mpr hbl
  refine lv_aload_n hx hb dL_law_108 rfl (lv_at hl 2 rfl) ?_
  refine lv_aload_n hx hb dL_law_109 rfl (lv_at hl 1 rfl) ?_
  refine lv_iload_n hx hb dL_law_110 rfl (lv_at hl 0 rfl) ?_
  refine lv_iconst (v := 1) hx hb dL_law_111 (by decide) ?_
  refine lv_iadd hx hb dL_law_112 ?_
  refine va_sld hx hb hX hbl hbA hS (law_in (j := 1) h5 hL (by decide)) dL_law_113 ?_
  refine lv_aload_n hx hb dL_law_114 rfl (lv_at hl 1 rfl) ?_
  refine lv_iload_n hx hb dL_law_115 rfl (lv_at hl 0 rfl) ?_
  refine lv_iconst (v := 2) hx hb dL_law_116 (by decide) ?_
  refine lv_iadd hx hb dL_law_117 ?_
  refine va_sld hx hb hX hbl hbA hS (law_in (j := 2) h5 hL (by decide)) dL_law_118 ?_
  refine lv_aload_n hx hb dL_law_119 rfl (lv_at hl 1 rfl) ?_
  refine lv_iload_n hx hb dL_law_120 rfl (lv_at hl 0 rfl) ?_
  refine lv_iconst (v := 3) hx hb dL_law_121 (by decide) ?_
  refine lv_iadd hx hb dL_law_122 ?_
  refine va_sld hx hb hX hbl hbA hS (law_in (j := 3) h5 hL (by decide)) dL_law_123 ?_
  refine lv_aload_n hx hb dL_law_124 rfl (lv_at hl 1 rfl) ?_
  refine lv_iload_n hx hb dL_law_125 rfl (lv_at hl 0 rfl) ?_
  refine lv_iconst (v := 4) hx hb dL_law_126 (by decide) ?_
  refine lv_iadd hx hb dL_law_127 ?_
  refine va_sld hx hb hX hbl hbA hS (law_in (j := 4) h5 hL (by decide)) dL_law_128 ?_
  have hPc := hP.sub (ws' := xwU dA dZ ax qx u v) [0, 1, 2, 3, 4, 5, 6, 7, 8, 9, 10] rfl
  have hDc := hD.sub (ws' := xwU dA dZ ax qx u v) [0, 1, 2, 3, 4, 5, 6, 7, 8, 9, 10] (by decide) rfl
  have hFc := va_free (wc := xwU dA dZ ax qx u v) hD hS hA [0, 1, 2, 3, 4, 5, 6, 7, 8, 9, 10] rfl
  refine va_calli (va_runV (As := [.int (xs ((nI (5 * k)) + 1).toNatClampNeg), .int (xs ((nI (5 * k)) + 2).toNatClampNeg), .int (xs ((nI (5 * k)) + 3).toNatClampNeg), .int (xs ((nI (5 * k)) + 4).toNatClampNeg)]) (rest := []) ⟨hx, hb, hml, hown, hts⟩ (metX0_statement l dC dI dA dZ ax qx u v H.size (xs ((nI (5 * k)) + 1).toNatClampNeg) (xs ((nI (5 * k)) + 2).toNatClampNeg) (xs ((nI (5 * k)) + 3).toNatClampNeg) (xs ((nI (5 * k)) + 4).toNatClampNeg) hI) (cwV 4 hts (lw_V q66 q67 q68 q14 q69) rfl rfl rfl (by decide +kernel) ⟨Nat.le_of_ble_eq_true rfl, Nat.le_of_ble_eq_true rfl⟩) ⟨ha_M_blind, va_recv hK hPc (ci := 0) (q0 := 0) rfl rfl, fun U hU hW => ⟨rfl, by rw [hU], by rw [hU]; exact hPc, va_K.moved hW.alike hK, hDc.weaken (fun _ _ _ _ => trivial)⟩⟩ rfl rfl hl.1 rfl (lv_room (Nat.le_of_ble_eq_true rfl)) dL_law_129 ⟨Nat.le_of_ble_eq_true rfl, Nat.le_of_ble_eq_true rfl⟩) hS (fun q _ h => hFc q h) hFc (fun r1 y_ t H1 locs ht hvm hw hB hz1 hk1 hS => ?_)
  obtain ⟨u1, v1⟩ := y_
  have hw1 : (r1, u1) = aStatement u (xs ((nI (5 * k)) + 1).toNatClampNeg) (xs ((nI (5 * k)) + 2).toNatClampNeg) (xs ((nI (5 * k)) + 3).toNatClampNeg) (xs ((nI (5 * k)) + 4).toNatClampNeg) := hw
  obtain ⟨hP1, hK1, hD1⟩ := hB
  rw [ht] at hP1
  obtain ⟨hP, hD⟩ := va_join (wr := mwU dA am qm u) hP hD [0, 1, 2, 3, 4, 5, 6, 7, 8, 9, 10] [11, 12, 13, 14, 15, 16, 17] rfl rfl (by decide) (by decide) hk1 hFc hP1 hD1
  generalize H1 = H at hP hS ⊢
  have hP : va_P (dC, dI) vwCl (mwU dA am qm u ++ xwU dA dZ ax qx u1 v1) H := hP
  have hD : va_D (fun q : Nat => s.heap.size ≤ q) (mwU dA am qm u ++ xwU dA dZ ax qx u1 v1) := hD
  refine lv_aload_n hx hb dL_law_132 rfl (lv_at hl 3 rfl) ?_
  refine lv_aload_n hx hb dL_law_133 rfl (lv_at hl 1 rfl) ?_
  refine lv_iload_n hx hb dL_law_134 rfl (lv_at hl 0 rfl) ?_
  refine lv_iconst (v := 1) hx hb dL_law_135 (by decide) ?_
  refine lv_iadd hx hb dL_law_136 ?_
  refine va_sld hx hb hX hbl hbA hS (law_in (j := 1) h5 hL (by decide)) dL_law_137 ?_
  refine lv_aload_n hx hb dL_law_138 rfl (lv_at hl 1 rfl) ?_
  refine lv_iload_n hx hb dL_law_139 rfl (lv_at hl 0 rfl) ?_
  refine lv_iconst (v := 2) hx hb dL_law_140 (by decide) ?_
  refine lv_iadd hx hb dL_law_141 ?_
  refine va_sld hx hb hX hbl hbA hS (law_in (j := 2) h5 hL (by decide)) dL_law_142 ?_
  refine lv_aload_n hx hb dL_law_143 rfl (lv_at hl 1 rfl) ?_
  refine lv_iload_n hx hb dL_law_144 rfl (lv_at hl 0 rfl) ?_
  refine lv_iconst (v := 3) hx hb dL_law_145 (by decide) ?_
  refine lv_iadd hx hb dL_law_146 ?_
  refine va_sld hx hb hX hbl hbA hS (law_in (j := 3) h5 hL (by decide)) dL_law_147 ?_
  refine lv_aload_n hx hb dL_law_148 rfl (lv_at hl 1 rfl) ?_
  refine lv_iload_n hx hb dL_law_149 rfl (lv_at hl 0 rfl) ?_
  refine lv_iconst (v := 4) hx hb dL_law_150 (by decide) ?_
  refine lv_iadd hx hb dL_law_151 ?_
  refine va_sld hx hb hX hbl hbA hS (law_in (j := 4) h5 hL (by decide)) dL_law_152 ?_
  have hKm := hK.sub (tys' := mT dA) [0] rfl
  have hPc := hP.sub (ws' := mwU dA am qm u) [0, 1, 2, 3, 4, 5, 6] rfl
  have hDc := hD.sub (ws' := mwU dA am qm u) [0, 1, 2, 3, 4, 5, 6] (by decide) rfl
  have hFc := va_free (wc := mwU dA am qm u) hD hS hA [0, 1, 2, 3, 4, 5, 6] rfl
  refine va_calli (va_runV (As := [.int (xs ((nI (5 * k)) + 1).toNatClampNeg), .int (xs ((nI (5 * k)) + 2).toNatClampNeg), .int (xs ((nI (5 * k)) + 3).toNatClampNeg), .int (xs ((nI (5 * k)) + 4).toNatClampNeg)]) (rest := [.int r1]) ⟨hx, hb, hml, hown, hts⟩ (metX1_statement l dC dI dA am qm u H.size (xs ((nI (5 * k)) + 1).toNatClampNeg) (xs ((nI (5 * k)) + 2).toNatClampNeg) (xs ((nI (5 * k)) + 3).toNatClampNeg) (xs ((nI (5 * k)) + 4).toNatClampNeg) hI) (cwV 4 hts (lw_V q212 q213 q214 q15 q215) rfl rfl rfl (by decide +kernel) ⟨Nat.le_of_ble_eq_true rfl, Nat.le_of_ble_eq_true rfl⟩) ⟨ha_M_blind, va_recv hKm hPc (ci := 1) (q0 := 0) rfl rfl, fun U hU hW => ⟨rfl, by rw [hU], by rw [hU]; exact hPc, va_K.moved hW.alike hKm, hDc.weaken (fun _ _ _ _ => trivial)⟩⟩ rfl rfl hl.1 rfl (lv_room (Nat.le_of_ble_eq_true rfl)) dL_law_153 ⟨Nat.le_of_ble_eq_true rfl, Nat.le_of_ble_eq_true rfl⟩) hS (fun q _ h => hFc q h) hFc (fun r2 y_ t H1 locs ht hvm hw hB hz1 hk1 hS => ?_)
  obtain ⟨u2, eu2⟩ : ∃ z, z = y_ := ⟨_, rfl⟩
  subst eu2
  have hw2 : (r2, u2) = aStatement u (xs ((nI (5 * k)) + 1).toNatClampNeg) (xs ((nI (5 * k)) + 2).toNatClampNeg) (xs ((nI (5 * k)) + 3).toNatClampNeg) (xs ((nI (5 * k)) + 4).toNatClampNeg) := hw
  obtain ⟨hP1, hK1, hD1⟩ := hB
  rw [ht] at hP1
  obtain ⟨hP, hD⟩ := va_join (wr := xwU dA dZ ax qx u1 v1) hP hD [0, 1, 2, 3, 4, 5, 6] [7, 8, 9, 10, 11, 12, 13, 14, 15, 16, 17] rfl rfl (by decide) (by decide) hk1 hFc hP1 hD1
  generalize H1 = H at hP hS ⊢
  have hP : va_P (dC, dI) vwCl (xwU dA dZ ax qx u1 v1 ++ mwU dA am qm u2) H := hP
  have hD : va_D (fun q : Nat => s.heap.size ≤ q) (xwU dA dZ ax qx u1 v1 ++ mwU dA am qm u2) := hD
  refine lv_icmp_eq (tgt := 523) hx hb dL_law_156 (by decide) (fun c_1 => ?_) (fun c_1 => ?_)
  · obtain ⟨-, rfl⟩ := Prod.mk.inj (hw1.trans hw2.symm)
    have hI1 := aInv_statement hI (xs ((nI (5 * k)) + 1).toNatClampNeg) (xs ((nI (5 * k)) + 2).toNatClampNeg) (xs ((nI (5 * k)) + 3).toNatClampNeg) (xs ((nI (5 * k)) + 4).toNatClampNeg)
    rw [← hw1] at hI1
    exact K u1 v1 H locs hI1 hP hD hS
  · exact absurd (Prod.mk.inj (hw1.trans hw2.symm)).1 c_1
set_option maxHeartbeats 4000000 in
set_option maxRecDepth 100000 in
/-- the law's call 1: retract -/
theorem law_c1 {p : Program} {l : Launch} {e : Env} {s : State} {m : MethodId} {below : List Frame} {meth : Method} {c : Code} {dC : Nat → ClassId} {dI : Nat → Nat → Nat} {dA dZ : ClassId} {b L ax am : Nat} {qx qm : Nat → Nat} {xs : Nat → Int32} (hL : L ≤ 320) (C0 : lw_At p s m meth c b L xs) (hK : va_K (dC, dI) vwCl (xT dA dZ) s) {k : Nat} (h5 : 5 * k + 5 ≤ L) {u : ha_U} {v : ha_V} (hI : aInv u) {H : Heap} {locs : List Loc} (hP : va_P (dC, dI) vwCl (xwU dA dZ ax qx u v ++ mwU dA am qm u) H) (hD : va_D (fun q : Nat => s.heap.size ≤ q) (xwU dA dZ ax qx u v ++ mwU dA am qm u)) (hS : va_S (fun q : Nat => s.heap.size ≤ q) s.heap H locs) {ls : Array Slot} (hl : lv_has ls 4 [(3, .int (nI (5 * k))), (0, .ref b), (1, .ref ax), (2, .ref am)])
    (K : ∀ (u : ha_U) (v : ha_V) (H : Heap) (locs : List Loc), aInv u → va_P (dC, dI) vwCl (xwU dA dZ ax qx u v ++ mwU dA am qm u) H → va_D (fun q : Nat => s.heap.size ≤ q) (xwU dA dZ ax qx u v ++ mwU dA am qm u) → va_S (fun q : Nat => s.heap.size ≤ q) s.heap H locs → W p l e room_1 s m #[Value.ref b] below meth c H locs 600000 7290000 (lw_Z below #[Value.ref b] s) (F0 m 523 ls [])) : W p l e room_1 s m #[Value.ref b] below meth c H locs 600000 7290000 (lw_Z below #[Value.ref b] s) (F0 m 161 ls []) := by
  obtain ⟨hx, hb, hr, hml, hown, hts0, hX, hbl, hlocks, hgv⟩ := C0
  have hts : ∀ w ∈ lw_all, w.before #[Value.ref b] s = true := fun w h => hts0 w (lw_all_tbl h)
  have hown : s.vm.findClass "LoopVersionerLaw" = some m.cls := hown
  have hA : ∀ q : Nat, s.heap.size ≤ q → (fun q : Nat => s.heap.size ≤ q) q := fun _ h => h
  have hbA : ¬ (fun q : Nat => s.heap.size ≤ q) b := Nat.not_le.mpr hbl
  refine lv_aload_n hx hb dL_law_161 rfl (lv_at hl 2 rfl) ?_
  have hPc := hP.sub (ws' := xwU dA dZ ax qx u v) [0, 1, 2, 3, 4, 5, 6, 7, 8, 9, 10] rfl
  have hDc := hD.sub (ws' := xwU dA dZ ax qx u v) [0, 1, 2, 3, 4, 5, 6, 7, 8, 9, 10] (by decide) rfl
  have hFc := va_free (wc := xwU dA dZ ax qx u v) hD hS hA [0, 1, 2, 3, 4, 5, 6, 7, 8, 9, 10] rfl
  refine va_calli (va_runV (As := []) (rest := []) ⟨hx, hb, hml, hown, hts⟩ (metX0_retract l dC dI dA dZ ax qx u v H.size) (cwV 0 hts (lw_V q76 q77 q78 q14 q79) rfl rfl rfl (by decide +kernel) ⟨Nat.le_of_ble_eq_true rfl, Nat.le_of_ble_eq_true rfl⟩) ⟨ha_M_blind, va_recv hK hPc (ci := 0) (q0 := 0) rfl rfl, fun U hU hW => ⟨rfl, by rw [hU], by rw [hU]; exact hPc, va_K.moved hW.alike hK, hDc.weaken (fun _ _ _ _ => trivial)⟩⟩ rfl rfl hl.1 rfl (lv_room (Nat.le_of_ble_eq_true rfl)) dL_law_162 ⟨Nat.le_of_ble_eq_true rfl, Nat.le_of_ble_eq_true rfl⟩) hS (fun q _ h => hFc q h) hFc (fun r1 y_ t H1 locs ht hvm hw hB hz1 hk1 hS => ?_)
  obtain ⟨u1, v1⟩ := y_
  have hw1 : (r1, u1) = aRetract u := hw
  obtain ⟨hP1, hK1, hD1⟩ := hB
  rw [ht] at hP1
  obtain ⟨hP, hD⟩ := va_join (wr := mwU dA am qm u) hP hD [0, 1, 2, 3, 4, 5, 6, 7, 8, 9, 10] [11, 12, 13, 14, 15, 16, 17] rfl rfl (by decide) (by decide) hk1 hFc hP1 hD1
  generalize H1 = H at hP hS ⊢
  have hP : va_P (dC, dI) vwCl (mwU dA am qm u ++ xwU dA dZ ax qx u1 v1) H := hP
  have hD : va_D (fun q : Nat => s.heap.size ≤ q) (mwU dA am qm u ++ xwU dA dZ ax qx u1 v1) := hD
  refine lv_aload_n hx hb dL_law_165 rfl (lv_at hl 3 rfl) ?_
  have hKm := hK.sub (tys' := mT dA) [0] rfl
  have hPc := hP.sub (ws' := mwU dA am qm u) [0, 1, 2, 3, 4, 5, 6] rfl
  have hDc := hD.sub (ws' := mwU dA am qm u) [0, 1, 2, 3, 4, 5, 6] (by decide) rfl
  have hFc := va_free (wc := mwU dA am qm u) hD hS hA [0, 1, 2, 3, 4, 5, 6] rfl
  refine va_calli (va_runV (As := []) (rest := [.int r1]) ⟨hx, hb, hml, hown, hts⟩ (metX1_retract l dC dI dA am qm u H.size) (cwV 0 hts (lw_V q220 q221 q222 q15 q223) rfl rfl rfl (by decide +kernel) ⟨Nat.le_of_ble_eq_true rfl, Nat.le_of_ble_eq_true rfl⟩) ⟨ha_M_blind, va_recv hKm hPc (ci := 1) (q0 := 0) rfl rfl, fun U hU hW => ⟨rfl, by rw [hU], by rw [hU]; exact hPc, va_K.moved hW.alike hKm, hDc.weaken (fun _ _ _ _ => trivial)⟩⟩ rfl rfl hl.1 rfl (lv_room (Nat.le_of_ble_eq_true rfl)) dL_law_166 ⟨Nat.le_of_ble_eq_true rfl, Nat.le_of_ble_eq_true rfl⟩) hS (fun q _ h => hFc q h) hFc (fun r2 y_ t H1 locs ht hvm hw hB hz1 hk1 hS => ?_)
  obtain ⟨u2, eu2⟩ : ∃ z, z = y_ := ⟨_, rfl⟩
  subst eu2
  have hw2 : (r2, u2) = aRetract u := hw
  obtain ⟨hP1, hK1, hD1⟩ := hB
  rw [ht] at hP1
  obtain ⟨hP, hD⟩ := va_join (wr := xwU dA dZ ax qx u1 v1) hP hD [0, 1, 2, 3, 4, 5, 6] [7, 8, 9, 10, 11, 12, 13, 14, 15, 16, 17] rfl rfl (by decide) (by decide) hk1 hFc hP1 hD1
  generalize H1 = H at hP hS ⊢
  have hP : va_P (dC, dI) vwCl (xwU dA dZ ax qx u1 v1 ++ mwU dA am qm u2) H := hP
  have hD : va_D (fun q : Nat => s.heap.size ≤ q) (xwU dA dZ ax qx u1 v1 ++ mwU dA am qm u2) := hD
  refine lv_icmp_eq (tgt := 523) hx hb dL_law_169 (by decide) (fun c_1 => ?_) (fun c_1 => ?_)
  · obtain ⟨-, rfl⟩ := Prod.mk.inj (hw1.trans hw2.symm)
    have hI1 := aInv_retract hI
    rw [← hw1] at hI1
    exact K u1 v1 H locs hI1 hP hD hS
  · exact absurd (Prod.mk.inj (hw1.trans hw2.symm)).1 c_1
set_option maxHeartbeats 4000000 in
set_option maxRecDepth 100000 in
/-- the law's call 2: clear -/
theorem law_c2 {p : Program} {l : Launch} {e : Env} {s : State} {m : MethodId} {below : List Frame} {meth : Method} {c : Code} {dC : Nat → ClassId} {dI : Nat → Nat → Nat} {dA dZ : ClassId} {b L ax am : Nat} {qx qm : Nat → Nat} {xs : Nat → Int32} (hL : L ≤ 320) (C0 : lw_At p s m meth c b L xs) (hK : va_K (dC, dI) vwCl (xT dA dZ) s) {k : Nat} (h5 : 5 * k + 5 ≤ L) {u : ha_U} {v : ha_V} (hI : aInv u) {H : Heap} {locs : List Loc} (hP : va_P (dC, dI) vwCl (xwU dA dZ ax qx u v ++ mwU dA am qm u) H) (hD : va_D (fun q : Nat => s.heap.size ≤ q) (xwU dA dZ ax qx u v ++ mwU dA am qm u)) (hS : va_S (fun q : Nat => s.heap.size ≤ q) s.heap H locs) {ls : Array Slot} (hl : lv_has ls 4 [(3, .int (nI (5 * k))), (0, .ref b), (1, .ref ax), (2, .ref am)])
    (K : ∀ (u : ha_U) (v : ha_V) (H : Heap) (locs : List Loc), aInv u → va_P (dC, dI) vwCl (xwU dA dZ ax qx u v ++ mwU dA am qm u) H → va_D (fun q : Nat => s.heap.size ≤ q) (xwU dA dZ ax qx u v ++ mwU dA am qm u) → va_S (fun q : Nat => s.heap.size ≤ q) s.heap H locs → W p l e room_1 s m #[Value.ref b] below meth c H locs 600000 7290000 (lw_Z below #[Value.ref b] s) (F0 m 523 ls [])) : W p l e room_1 s m #[Value.ref b] below meth c H locs 600000 7290000 (lw_Z below #[Value.ref b] s) (F0 m 174 ls []) := by
  obtain ⟨hx, hb, hr, hml, hown, hts0, hX, hbl, hlocks, hgv⟩ := C0
  have hts : ∀ w ∈ lw_all, w.before #[Value.ref b] s = true := fun w h => hts0 w (lw_all_tbl h)
  have hown : s.vm.findClass "LoopVersionerLaw" = some m.cls := hown
  have hA : ∀ q : Nat, s.heap.size ≤ q → (fun q : Nat => s.heap.size ≤ q) q := fun _ h => h
  have hbA : ¬ (fun q : Nat => s.heap.size ≤ q) b := Nat.not_le.mpr hbl
  refine lv_aload_n hx hb dL_law_174 rfl (lv_at hl 2 rfl) ?_
  have hPc := hP.sub (ws' := xwU dA dZ ax qx u v) [0, 1, 2, 3, 4, 5, 6, 7, 8, 9, 10] rfl
  have hDc := hD.sub (ws' := xwU dA dZ ax qx u v) [0, 1, 2, 3, 4, 5, 6, 7, 8, 9, 10] (by decide) rfl
  have hFc := va_free (wc := xwU dA dZ ax qx u v) hD hS hA [0, 1, 2, 3, 4, 5, 6, 7, 8, 9, 10] rfl
  refine va_calli (va_runV (As := []) (rest := []) ⟨hx, hb, hml, hown, hts⟩ (metX0_clear l dC dI dA dZ ax qx u v H.size) (cwV 0 hts (lw_V q80 q81 q82 q14 q83) rfl rfl rfl (by decide +kernel) ⟨Nat.le_of_ble_eq_true rfl, Nat.le_of_ble_eq_true rfl⟩) ⟨ha_M_blind, va_recv hK hPc (ci := 0) (q0 := 0) rfl rfl, fun U hU hW => ⟨rfl, by rw [hU], by rw [hU]; exact hPc, va_K.moved hW.alike hK, hDc.weaken (fun _ _ _ _ => trivial)⟩⟩ rfl rfl hl.1 rfl (lv_room (Nat.le_of_ble_eq_true rfl)) dL_law_175 ⟨Nat.le_of_ble_eq_true rfl, Nat.le_of_ble_eq_true rfl⟩) hS (fun q _ h => hFc q h) hFc (fun r1 y_ t H1 locs ht hvm hw hB hz1 hk1 hS => ?_)
  obtain ⟨u1, v1⟩ := y_
  have hw1 : (r1, u1) = aClear u := hw
  obtain ⟨hP1, hK1, hD1⟩ := hB
  rw [ht] at hP1
  obtain ⟨hP, hD⟩ := va_join (wr := mwU dA am qm u) hP hD [0, 1, 2, 3, 4, 5, 6, 7, 8, 9, 10] [11, 12, 13, 14, 15, 16, 17] rfl rfl (by decide) (by decide) hk1 hFc hP1 hD1
  generalize H1 = H at hP hS ⊢
  have hP : va_P (dC, dI) vwCl (mwU dA am qm u ++ xwU dA dZ ax qx u1 v1) H := hP
  have hD : va_D (fun q : Nat => s.heap.size ≤ q) (mwU dA am qm u ++ xwU dA dZ ax qx u1 v1) := hD
  refine lv_aload_n hx hb dL_law_178 rfl (lv_at hl 3 rfl) ?_
  have hKm := hK.sub (tys' := mT dA) [0] rfl
  have hPc := hP.sub (ws' := mwU dA am qm u) [0, 1, 2, 3, 4, 5, 6] rfl
  have hDc := hD.sub (ws' := mwU dA am qm u) [0, 1, 2, 3, 4, 5, 6] (by decide) rfl
  have hFc := va_free (wc := mwU dA am qm u) hD hS hA [0, 1, 2, 3, 4, 5, 6] rfl
  refine va_calli (va_runV (As := []) (rest := [.int r1]) ⟨hx, hb, hml, hown, hts⟩ (metX1_clear l dC dI dA am qm u H.size) (cwV 0 hts (lw_V q224 q225 q226 q15 q227) rfl rfl rfl (by decide +kernel) ⟨Nat.le_of_ble_eq_true rfl, Nat.le_of_ble_eq_true rfl⟩) ⟨ha_M_blind, va_recv hKm hPc (ci := 1) (q0 := 0) rfl rfl, fun U hU hW => ⟨rfl, by rw [hU], by rw [hU]; exact hPc, va_K.moved hW.alike hKm, hDc.weaken (fun _ _ _ _ => trivial)⟩⟩ rfl rfl hl.1 rfl (lv_room (Nat.le_of_ble_eq_true rfl)) dL_law_179 ⟨Nat.le_of_ble_eq_true rfl, Nat.le_of_ble_eq_true rfl⟩) hS (fun q _ h => hFc q h) hFc (fun r2 y_ t H1 locs ht hvm hw hB hz1 hk1 hS => ?_)
  obtain ⟨u2, eu2⟩ : ∃ z, z = y_ := ⟨_, rfl⟩
  subst eu2
  have hw2 : (r2, u2) = aClear u := hw
  obtain ⟨hP1, hK1, hD1⟩ := hB
  rw [ht] at hP1
  obtain ⟨hP, hD⟩ := va_join (wr := xwU dA dZ ax qx u1 v1) hP hD [0, 1, 2, 3, 4, 5, 6] [7, 8, 9, 10, 11, 12, 13, 14, 15, 16, 17] rfl rfl (by decide) (by decide) hk1 hFc hP1 hD1
  generalize H1 = H at hP hS ⊢
  have hP : va_P (dC, dI) vwCl (xwU dA dZ ax qx u1 v1 ++ mwU dA am qm u2) H := hP
  have hD : va_D (fun q : Nat => s.heap.size ≤ q) (xwU dA dZ ax qx u1 v1 ++ mwU dA am qm u2) := hD
  refine lv_icmp_eq (tgt := 523) hx hb dL_law_182 (by decide) (fun c_1 => ?_) (fun c_1 => ?_)
  · obtain ⟨-, rfl⟩ := Prod.mk.inj (hw1.trans hw2.symm)
    have hI1 := aInv_clear hI
    rw [← hw1] at hI1
    exact K u1 v1 H locs hI1 hP hD hS
  · exact absurd (Prod.mk.inj (hw1.trans hw2.symm)).1 c_1
set_option maxHeartbeats 4000000 in
set_option maxRecDepth 100000 in
/-- the law's call 3: statements -/
theorem law_c3 {p : Program} {l : Launch} {e : Env} {s : State} {m : MethodId} {below : List Frame} {meth : Method} {c : Code} {dC : Nat → ClassId} {dI : Nat → Nat → Nat} {dA dZ : ClassId} {b L ax am : Nat} {qx qm : Nat → Nat} {xs : Nat → Int32} (hL : L ≤ 320) (C0 : lw_At p s m meth c b L xs) (hK : va_K (dC, dI) vwCl (xT dA dZ) s) {k : Nat} (h5 : 5 * k + 5 ≤ L) {u : ha_U} {v : ha_V} (hI : aInv u) {H : Heap} {locs : List Loc} (hP : va_P (dC, dI) vwCl (xwU dA dZ ax qx u v ++ mwU dA am qm u) H) (hD : va_D (fun q : Nat => s.heap.size ≤ q) (xwU dA dZ ax qx u v ++ mwU dA am qm u)) (hS : va_S (fun q : Nat => s.heap.size ≤ q) s.heap H locs) {ls : Array Slot} (hl : lv_has ls 4 [(3, .int (nI (5 * k))), (0, .ref b), (1, .ref ax), (2, .ref am)])
    (K : ∀ (u : ha_U) (v : ha_V) (H : Heap) (locs : List Loc), aInv u → va_P (dC, dI) vwCl (xwU dA dZ ax qx u v ++ mwU dA am qm u) H → va_D (fun q : Nat => s.heap.size ≤ q) (xwU dA dZ ax qx u v ++ mwU dA am qm u) → va_S (fun q : Nat => s.heap.size ≤ q) s.heap H locs → W p l e room_1 s m #[Value.ref b] below meth c H locs 600000 7290000 (lw_Z below #[Value.ref b] s) (F0 m 523 ls [])) : W p l e room_1 s m #[Value.ref b] below meth c H locs 600000 7290000 (lw_Z below #[Value.ref b] s) (F0 m 187 ls []) := by
  obtain ⟨hx, hb, hr, hml, hown, hts0, hX, hbl, hlocks, hgv⟩ := C0
  have hts : ∀ w ∈ lw_all, w.before #[Value.ref b] s = true := fun w h => hts0 w (lw_all_tbl h)
  have hown : s.vm.findClass "LoopVersionerLaw" = some m.cls := hown
  have hA : ∀ q : Nat, s.heap.size ≤ q → (fun q : Nat => s.heap.size ≤ q) q := fun _ h => h
  have hbA : ¬ (fun q : Nat => s.heap.size ≤ q) b := Nat.not_le.mpr hbl
  refine lv_aload_n hx hb dL_law_187 rfl (lv_at hl 2 rfl) ?_
  have hPc := hP.sub (ws' := xwU dA dZ ax qx u v) [0, 1, 2, 3, 4, 5, 6, 7, 8, 9, 10] rfl
  refine vp_callSi (W.runV (As := []) (rest := []) ⟨hx, hb, hml, hown, hts⟩ (metX0_statements l dC dI dA dZ ax qx u v) (cwV 0 hts (lw_V q84 q85 q86 q14 q87) rfl rfl rfl (by decide +kernel) ⟨Nat.le_of_ble_eq_true rfl, Nat.le_of_ble_eq_true rfl⟩) ⟨ha_R_blind, va_recv hK hPc (ci := 0) (q0 := 0) rfl rfl, fun U hU hW => ⟨rfl, by rw [hU]; exact hPc, va_K.moved hW.alike hK⟩⟩ rfl rfl hl.1 rfl (lv_room (Nat.le_of_ble_eq_true rfl)) dL_law_188 ⟨Nat.le_of_ble_eq_true rfl, Nat.le_of_ble_eq_true rfl⟩) (fun r1 hw1 => ?_)
  have hw1 : r1 = u.2.2.2.2.2.2.1 := hw1
  refine lv_aload_n hx hb dL_law_191 rfl (lv_at hl 3 rfl) ?_
  have hPc := hP.sub (ws' := mwU dA am qm u) [11, 12, 13, 14, 15, 16, 17] rfl
  have hKm := hK.sub (tys' := mT dA) [0] rfl
  refine vp_callSi (W.runV (As := []) (rest := [.int r1]) ⟨hx, hb, hml, hown, hts⟩ (metX1_statements l dC dI dA am qm u) (cwV 0 hts (lw_V q228 q229 q230 q15 q231) rfl rfl rfl (by decide +kernel) ⟨Nat.le_of_ble_eq_true rfl, Nat.le_of_ble_eq_true rfl⟩) ⟨ha_R_blind, va_recv hKm hPc (ci := 1) (q0 := 0) rfl rfl, fun U hU hW => ⟨rfl, by rw [hU]; exact hPc, va_K.moved hW.alike hKm⟩⟩ rfl rfl hl.1 rfl (lv_room (Nat.le_of_ble_eq_true rfl)) dL_law_192 ⟨Nat.le_of_ble_eq_true rfl, Nat.le_of_ble_eq_true rfl⟩) (fun r2 hw2 => ?_)
  have hw2 : r2 = u.2.2.2.2.2.2.1 := hw2
  refine lv_icmp_eq (tgt := 523) hx hb dL_law_195 (by decide) (fun c_1 => ?_) (fun c_1 => ?_)
  · exact K u v H locs hI hP hD hS
  · exact absurd (hw1.trans hw2.symm) c_1
set_option maxHeartbeats 4000000 in
set_option maxRecDepth 100000 in
/-- the law's call 4: base -/
theorem law_c4 {p : Program} {l : Launch} {e : Env} {s : State} {m : MethodId} {below : List Frame} {meth : Method} {c : Code} {dC : Nat → ClassId} {dI : Nat → Nat → Nat} {dA dZ : ClassId} {b L ax am : Nat} {qx qm : Nat → Nat} {xs : Nat → Int32} (hL : L ≤ 320) (C0 : lw_At p s m meth c b L xs) (hK : va_K (dC, dI) vwCl (xT dA dZ) s) {k : Nat} (h5 : 5 * k + 5 ≤ L) {u : ha_U} {v : ha_V} (hI : aInv u) {H : Heap} {locs : List Loc} (hP : va_P (dC, dI) vwCl (xwU dA dZ ax qx u v ++ mwU dA am qm u) H) (hD : va_D (fun q : Nat => s.heap.size ≤ q) (xwU dA dZ ax qx u v ++ mwU dA am qm u)) (hS : va_S (fun q : Nat => s.heap.size ≤ q) s.heap H locs) {ls : Array Slot} (hl : lv_has ls 4 [(3, .int (nI (5 * k))), (0, .ref b), (1, .ref ax), (2, .ref am)])
    (K : ∀ (u : ha_U) (v : ha_V) (H : Heap) (locs : List Loc), aInv u → va_P (dC, dI) vwCl (xwU dA dZ ax qx u v ++ mwU dA am qm u) H → va_D (fun q : Nat => s.heap.size ≤ q) (xwU dA dZ ax qx u v ++ mwU dA am qm u) → va_S (fun q : Nat => s.heap.size ≤ q) s.heap H locs → W p l e room_1 s m #[Value.ref b] below meth c H locs 600000 7290000 (lw_Z below #[Value.ref b] s) (F0 m 523 ls [])) : W p l e room_1 s m #[Value.ref b] below meth c H locs 600000 7290000 (lw_Z below #[Value.ref b] s) (F0 m 200 ls []) := by
  obtain ⟨hx, hb, hr, hml, hown, hts0, hX, hbl, hlocks, hgv⟩ := C0
  have hts : ∀ w ∈ lw_all, w.before #[Value.ref b] s = true := fun w h => hts0 w (lw_all_tbl h)
  have hown : s.vm.findClass "LoopVersionerLaw" = some m.cls := hown
  have hA : ∀ q : Nat, s.heap.size ≤ q → (fun q : Nat => s.heap.size ≤ q) q := fun _ h => h
  have hbA : ¬ (fun q : Nat => s.heap.size ≤ q) b := Nat.not_le.mpr hbl
  refine lv_aload_n hx hb dL_law_200 rfl (lv_at hl 2 rfl) ?_
  refine lv_aload_n hx hb dL_law_201 rfl (lv_at hl 1 rfl) ?_
  refine lv_iload_n hx hb dL_law_202 rfl (lv_at hl 0 rfl) ?_
  refine lv_iconst (v := 1) hx hb dL_law_203 (by decide) ?_
  refine lv_iadd hx hb dL_law_204 ?_
  refine va_sld hx hb hX hbl hbA hS (law_in (j := 1) h5 hL (by decide)) dL_law_205 ?_
  refine lv_aload_n hx hb dL_law_206 rfl (lv_at hl 1 rfl) ?_
  refine lv_iload_n hx hb dL_law_207 rfl (lv_at hl 0 rfl) ?_
  refine lv_iconst (v := 2) hx hb dL_law_208 (by decide) ?_
  refine lv_iadd hx hb dL_law_209 ?_
  refine va_sld hx hb hX hbl hbA hS (law_in (j := 2) h5 hL (by decide)) dL_law_210 ?_
  have hPc := hP.sub (ws' := xwU dA dZ ax qx u v) [0, 1, 2, 3, 4, 5, 6, 7, 8, 9, 10] rfl
  have hDc := hD.sub (ws' := xwU dA dZ ax qx u v) [0, 1, 2, 3, 4, 5, 6, 7, 8, 9, 10] (by decide) rfl
  have hFc := va_free (wc := xwU dA dZ ax qx u v) hD hS hA [0, 1, 2, 3, 4, 5, 6, 7, 8, 9, 10] rfl
  refine va_calli (va_runV (As := [.int (xs ((nI (5 * k)) + 1).toNatClampNeg), .int (xs ((nI (5 * k)) + 2).toNatClampNeg)]) (rest := []) ⟨hx, hb, hml, hown, hts⟩ (metX0_base l dC dI dA dZ ax qx u v H.size (xs ((nI (5 * k)) + 1).toNatClampNeg) (xs ((nI (5 * k)) + 2).toNatClampNeg)) (cwV 2 hts (lw_V q88 q89 q90 q14 q91) rfl rfl rfl (by decide +kernel) ⟨Nat.le_of_ble_eq_true rfl, Nat.le_of_ble_eq_true rfl⟩) ⟨ha_M_blind, va_recv hK hPc (ci := 0) (q0 := 0) rfl rfl, fun U hU hW => ⟨rfl, by rw [hU], by rw [hU]; exact hPc, va_K.moved hW.alike hK, hDc.weaken (fun _ _ _ _ => trivial)⟩⟩ rfl rfl hl.1 rfl (lv_room (Nat.le_of_ble_eq_true rfl)) dL_law_211 ⟨Nat.le_of_ble_eq_true rfl, Nat.le_of_ble_eq_true rfl⟩) hS (fun q _ h => hFc q h) hFc (fun r1 y_ t H1 locs ht hvm hw hB hz1 hk1 hS => ?_)
  obtain ⟨u1, v1⟩ := y_
  have hw1 : (r1, u1) = aBase u (xs ((nI (5 * k)) + 1).toNatClampNeg) (xs ((nI (5 * k)) + 2).toNatClampNeg) := hw
  obtain ⟨hP1, hK1, hD1⟩ := hB
  rw [ht] at hP1
  obtain ⟨hP, hD⟩ := va_join (wr := mwU dA am qm u) hP hD [0, 1, 2, 3, 4, 5, 6, 7, 8, 9, 10] [11, 12, 13, 14, 15, 16, 17] rfl rfl (by decide) (by decide) hk1 hFc hP1 hD1
  generalize H1 = H at hP hS ⊢
  have hP : va_P (dC, dI) vwCl (mwU dA am qm u ++ xwU dA dZ ax qx u1 v1) H := hP
  have hD : va_D (fun q : Nat => s.heap.size ≤ q) (mwU dA am qm u ++ xwU dA dZ ax qx u1 v1) := hD
  refine lv_aload_n hx hb dL_law_214 rfl (lv_at hl 3 rfl) ?_
  refine lv_aload_n hx hb dL_law_215 rfl (lv_at hl 1 rfl) ?_
  refine lv_iload_n hx hb dL_law_216 rfl (lv_at hl 0 rfl) ?_
  refine lv_iconst (v := 1) hx hb dL_law_217 (by decide) ?_
  refine lv_iadd hx hb dL_law_218 ?_
  refine va_sld hx hb hX hbl hbA hS (law_in (j := 1) h5 hL (by decide)) dL_law_219 ?_
  refine lv_aload_n hx hb dL_law_220 rfl (lv_at hl 1 rfl) ?_
  refine lv_iload_n hx hb dL_law_221 rfl (lv_at hl 0 rfl) ?_
  refine lv_iconst (v := 2) hx hb dL_law_222 (by decide) ?_
  refine lv_iadd hx hb dL_law_223 ?_
  refine va_sld hx hb hX hbl hbA hS (law_in (j := 2) h5 hL (by decide)) dL_law_224 ?_
  have hKm := hK.sub (tys' := mT dA) [0] rfl
  have hPc := hP.sub (ws' := mwU dA am qm u) [0, 1, 2, 3, 4, 5, 6] rfl
  have hDc := hD.sub (ws' := mwU dA am qm u) [0, 1, 2, 3, 4, 5, 6] (by decide) rfl
  have hFc := va_free (wc := mwU dA am qm u) hD hS hA [0, 1, 2, 3, 4, 5, 6] rfl
  refine va_calli (va_runV (As := [.int (xs ((nI (5 * k)) + 1).toNatClampNeg), .int (xs ((nI (5 * k)) + 2).toNatClampNeg)]) (rest := [.int r1]) ⟨hx, hb, hml, hown, hts⟩ (metX1_base l dC dI dA am qm u H.size (xs ((nI (5 * k)) + 1).toNatClampNeg) (xs ((nI (5 * k)) + 2).toNatClampNeg)) (cwV 2 hts (lw_V q232 q233 q234 q15 q235) rfl rfl rfl (by decide +kernel) ⟨Nat.le_of_ble_eq_true rfl, Nat.le_of_ble_eq_true rfl⟩) ⟨ha_M_blind, va_recv hKm hPc (ci := 1) (q0 := 0) rfl rfl, fun U hU hW => ⟨rfl, by rw [hU], by rw [hU]; exact hPc, va_K.moved hW.alike hKm, hDc.weaken (fun _ _ _ _ => trivial)⟩⟩ rfl rfl hl.1 rfl (lv_room (Nat.le_of_ble_eq_true rfl)) dL_law_225 ⟨Nat.le_of_ble_eq_true rfl, Nat.le_of_ble_eq_true rfl⟩) hS (fun q _ h => hFc q h) hFc (fun r2 y_ t H1 locs ht hvm hw hB hz1 hk1 hS => ?_)
  obtain ⟨u2, eu2⟩ : ∃ z, z = y_ := ⟨_, rfl⟩
  subst eu2
  have hw2 : (r2, u2) = aBase u (xs ((nI (5 * k)) + 1).toNatClampNeg) (xs ((nI (5 * k)) + 2).toNatClampNeg) := hw
  obtain ⟨hP1, hK1, hD1⟩ := hB
  rw [ht] at hP1
  obtain ⟨hP, hD⟩ := va_join (wr := xwU dA dZ ax qx u1 v1) hP hD [0, 1, 2, 3, 4, 5, 6] [7, 8, 9, 10, 11, 12, 13, 14, 15, 16, 17] rfl rfl (by decide) (by decide) hk1 hFc hP1 hD1
  generalize H1 = H at hP hS ⊢
  have hP : va_P (dC, dI) vwCl (xwU dA dZ ax qx u1 v1 ++ mwU dA am qm u2) H := hP
  have hD : va_D (fun q : Nat => s.heap.size ≤ q) (xwU dA dZ ax qx u1 v1 ++ mwU dA am qm u2) := hD
  refine lv_icmp_eq (tgt := 523) hx hb dL_law_228 (by decide) (fun c_1 => ?_) (fun c_1 => ?_)
  · obtain ⟨-, rfl⟩ := Prod.mk.inj (hw1.trans hw2.symm)
    have hI1 := aInv_base hI (xs ((nI (5 * k)) + 1).toNatClampNeg) (xs ((nI (5 * k)) + 2).toNatClampNeg)
    rw [← hw1] at hI1
    exact K u1 v1 H locs hI1 hP hD hS
  · exact absurd (Prod.mk.inj (hw1.trans hw2.symm)).1 c_1
set_option maxHeartbeats 4000000 in
set_option maxRecDepth 100000 in
/-- the law's call 5: run -/
theorem law_c5 {p : Program} {l : Launch} {e : Env} {s : State} {m : MethodId} {below : List Frame} {meth : Method} {c : Code} {dC : Nat → ClassId} {dI : Nat → Nat → Nat} {dA dZ : ClassId} {b L ax am : Nat} {qx qm : Nat → Nat} {xs : Nat → Int32} (hL : L ≤ 320) (C0 : lw_At p s m meth c b L xs) (hK : va_K (dC, dI) vwCl (xT dA dZ) s) {k : Nat} (h5 : 5 * k + 5 ≤ L) {u : ha_U} {v : ha_V} (hI : aInv u) {H : Heap} {locs : List Loc} (hP : va_P (dC, dI) vwCl (xwU dA dZ ax qx u v ++ mwU dA am qm u) H) (hD : va_D (fun q : Nat => s.heap.size ≤ q) (xwU dA dZ ax qx u v ++ mwU dA am qm u)) (hS : va_S (fun q : Nat => s.heap.size ≤ q) s.heap H locs) {ls : Array Slot} (hl : lv_has ls 4 [(3, .int (nI (5 * k))), (0, .ref b), (1, .ref ax), (2, .ref am)])
    (K : ∀ (u : ha_U) (v : ha_V) (H : Heap) (locs : List Loc), aInv u → va_P (dC, dI) vwCl (xwU dA dZ ax qx u v ++ mwU dA am qm u) H → va_D (fun q : Nat => s.heap.size ≤ q) (xwU dA dZ ax qx u v ++ mwU dA am qm u) → va_S (fun q : Nat => s.heap.size ≤ q) s.heap H locs → W p l e room_1 s m #[Value.ref b] below meth c H locs 600000 7290000 (lw_Z below #[Value.ref b] s) (F0 m 523 ls [])) : W p l e room_1 s m #[Value.ref b] below meth c H locs 600000 7290000 (lw_Z below #[Value.ref b] s) (F0 m 233 ls []) := by
  obtain ⟨hx, hb, hr, hml, hown, hts0, hX, hbl, hlocks, hgv⟩ := C0
  have hts : ∀ w ∈ lw_all, w.before #[Value.ref b] s = true := fun w h => hts0 w (lw_all_tbl h)
  have hown : s.vm.findClass "LoopVersionerLaw" = some m.cls := hown
  have hA : ∀ q : Nat, s.heap.size ≤ q → (fun q : Nat => s.heap.size ≤ q) q := fun _ h => h
  have hbA : ¬ (fun q : Nat => s.heap.size ≤ q) b := Nat.not_le.mpr hbl
  refine lv_aload_n hx hb dL_law_233 rfl (lv_at hl 2 rfl) ?_
  refine lv_aload_n hx hb dL_law_234 rfl (lv_at hl 1 rfl) ?_
  refine lv_iload_n hx hb dL_law_235 rfl (lv_at hl 0 rfl) ?_
  refine lv_iconst (v := 1) hx hb dL_law_236 (by decide) ?_
  refine lv_iadd hx hb dL_law_237 ?_
  refine va_sld hx hb hX hbl hbA hS (law_in (j := 1) h5 hL (by decide)) dL_law_238 ?_
  have hPc := hP.sub (ws' := xwU dA dZ ax qx u v) [0, 1, 2, 3, 4, 5, 6, 7, 8, 9, 10] rfl
  have hDc := hD.sub (ws' := xwU dA dZ ax qx u v) [0, 1, 2, 3, 4, 5, 6, 7, 8, 9, 10] (by decide) rfl
  have hFc := va_free (wc := xwU dA dZ ax qx u v) hD hS hA [0, 1, 2, 3, 4, 5, 6, 7, 8, 9, 10] rfl
  refine va_calli (va_runV (As := [.int (xs ((nI (5 * k)) + 1).toNatClampNeg)]) (rest := []) ⟨hx, hb, hml, hown, hts⟩ (metX0_run l dC dI dA dZ ax qx u v H.size (xs ((nI (5 * k)) + 1).toNatClampNeg) hI) (cwV 1 hts (lw_V q92 q93 q94 q14 q95) rfl rfl rfl (by decide +kernel) ⟨Nat.le_of_ble_eq_true rfl, Nat.le_of_ble_eq_true rfl⟩) ⟨ha_M_blind, va_recv hK hPc (ci := 0) (q0 := 0) rfl rfl, fun U hU hW => ⟨rfl, by rw [hU], by rw [hU]; exact hPc, va_K.moved hW.alike hK, hDc.weaken (fun _ _ _ _ => trivial)⟩⟩ rfl rfl hl.1 rfl (lv_room (Nat.le_of_ble_eq_true rfl)) dL_law_239 ⟨Nat.le_of_ble_eq_true rfl, Nat.le_of_ble_eq_true rfl⟩) hS (fun q _ h => hFc q h) hFc (fun r1 y_ t H1 locs ht hvm hw hB hz1 hk1 hS => ?_)
  obtain ⟨u1, v1⟩ := y_
  have hw1 : (r1, u1) = aRun u (xs ((nI (5 * k)) + 1).toNatClampNeg) := hw
  obtain ⟨hP1, hK1, hD1⟩ := hB
  rw [ht] at hP1
  obtain ⟨hP, hD⟩ := va_join (wr := mwU dA am qm u) hP hD [0, 1, 2, 3, 4, 5, 6, 7, 8, 9, 10] [11, 12, 13, 14, 15, 16, 17] rfl rfl (by decide) (by decide) hk1 hFc hP1 hD1
  generalize H1 = H at hP hS ⊢
  have hP : va_P (dC, dI) vwCl (mwU dA am qm u ++ xwU dA dZ ax qx u1 v1) H := hP
  have hD : va_D (fun q : Nat => s.heap.size ≤ q) (mwU dA am qm u ++ xwU dA dZ ax qx u1 v1) := hD
  refine lv_aload_n hx hb dL_law_242 rfl (lv_at hl 3 rfl) ?_
  refine lv_aload_n hx hb dL_law_243 rfl (lv_at hl 1 rfl) ?_
  refine lv_iload_n hx hb dL_law_244 rfl (lv_at hl 0 rfl) ?_
  refine lv_iconst (v := 1) hx hb dL_law_245 (by decide) ?_
  refine lv_iadd hx hb dL_law_246 ?_
  refine va_sld hx hb hX hbl hbA hS (law_in (j := 1) h5 hL (by decide)) dL_law_247 ?_
  have hKm := hK.sub (tys' := mT dA) [0] rfl
  have hPc := hP.sub (ws' := mwU dA am qm u) [0, 1, 2, 3, 4, 5, 6] rfl
  have hDc := hD.sub (ws' := mwU dA am qm u) [0, 1, 2, 3, 4, 5, 6] (by decide) rfl
  have hFc := va_free (wc := mwU dA am qm u) hD hS hA [0, 1, 2, 3, 4, 5, 6] rfl
  refine va_calli (va_runV (As := [.int (xs ((nI (5 * k)) + 1).toNatClampNeg)]) (rest := [.int r1]) ⟨hx, hb, hml, hown, hts⟩ (metX1_run l dC dI dA am qm u H.size (xs ((nI (5 * k)) + 1).toNatClampNeg) hI) (cwV 1 hts (lw_V q236 q237 q238 q15 q239) rfl rfl rfl (by decide +kernel) ⟨Nat.le_of_ble_eq_true rfl, Nat.le_of_ble_eq_true rfl⟩) ⟨ha_M_blind, va_recv hKm hPc (ci := 1) (q0 := 0) rfl rfl, fun U hU hW => ⟨rfl, by rw [hU], by rw [hU]; exact hPc, va_K.moved hW.alike hKm, hDc.weaken (fun _ _ _ _ => trivial)⟩⟩ rfl rfl hl.1 rfl (lv_room (Nat.le_of_ble_eq_true rfl)) dL_law_248 ⟨Nat.le_of_ble_eq_true rfl, Nat.le_of_ble_eq_true rfl⟩) hS (fun q _ h => hFc q h) hFc (fun r2 y_ t H1 locs ht hvm hw hB hz1 hk1 hS => ?_)
  obtain ⟨u2, eu2⟩ : ∃ z, z = y_ := ⟨_, rfl⟩
  subst eu2
  have hw2 : (r2, u2) = aRun u (xs ((nI (5 * k)) + 1).toNatClampNeg) := hw
  obtain ⟨hP1, hK1, hD1⟩ := hB
  rw [ht] at hP1
  obtain ⟨hP, hD⟩ := va_join (wr := xwU dA dZ ax qx u1 v1) hP hD [0, 1, 2, 3, 4, 5, 6] [7, 8, 9, 10, 11, 12, 13, 14, 15, 16, 17] rfl rfl (by decide) (by decide) hk1 hFc hP1 hD1
  generalize H1 = H at hP hS ⊢
  have hP : va_P (dC, dI) vwCl (xwU dA dZ ax qx u1 v1 ++ mwU dA am qm u2) H := hP
  have hD : va_D (fun q : Nat => s.heap.size ≤ q) (xwU dA dZ ax qx u1 v1 ++ mwU dA am qm u2) := hD
  refine lv_icmp_eq (tgt := 523) hx hb dL_law_251 (by decide) (fun c_1 => ?_) (fun c_1 => ?_)
  · obtain ⟨-, rfl⟩ := Prod.mk.inj (hw1.trans hw2.symm)
    have hI1 := aInv_run hI (xs ((nI (5 * k)) + 1).toNatClampNeg)
    rw [← hw1] at hI1
    exact K u1 v1 H locs hI1 hP hD hS
  · exact absurd (Prod.mk.inj (hw1.trans hw2.symm)).1 c_1
set_option maxHeartbeats 4000000 in
set_option maxRecDepth 100000 in
/-- the law's call 6: poke -/
theorem law_c6 {p : Program} {l : Launch} {e : Env} {s : State} {m : MethodId} {below : List Frame} {meth : Method} {c : Code} {dC : Nat → ClassId} {dI : Nat → Nat → Nat} {dA dZ : ClassId} {b L ax am : Nat} {qx qm : Nat → Nat} {xs : Nat → Int32} (hL : L ≤ 320) (C0 : lw_At p s m meth c b L xs) (hK : va_K (dC, dI) vwCl (xT dA dZ) s) {k : Nat} (h5 : 5 * k + 5 ≤ L) {u : ha_U} {v : ha_V} (hI : aInv u) {H : Heap} {locs : List Loc} (hP : va_P (dC, dI) vwCl (xwU dA dZ ax qx u v ++ mwU dA am qm u) H) (hD : va_D (fun q : Nat => s.heap.size ≤ q) (xwU dA dZ ax qx u v ++ mwU dA am qm u)) (hS : va_S (fun q : Nat => s.heap.size ≤ q) s.heap H locs) {ls : Array Slot} (hl : lv_has ls 4 [(3, .int (nI (5 * k))), (0, .ref b), (1, .ref ax), (2, .ref am)])
    (K : ∀ (u : ha_U) (v : ha_V) (H : Heap) (locs : List Loc), aInv u → va_P (dC, dI) vwCl (xwU dA dZ ax qx u v ++ mwU dA am qm u) H → va_D (fun q : Nat => s.heap.size ≤ q) (xwU dA dZ ax qx u v ++ mwU dA am qm u) → va_S (fun q : Nat => s.heap.size ≤ q) s.heap H locs → W p l e room_1 s m #[Value.ref b] below meth c H locs 600000 7290000 (lw_Z below #[Value.ref b] s) (F0 m 523 ls [])) : W p l e room_1 s m #[Value.ref b] below meth c H locs 600000 7290000 (lw_Z below #[Value.ref b] s) (F0 m 256 ls []) := by
  obtain ⟨hx, hb, hr, hml, hown, hts0, hX, hbl, hlocks, hgv⟩ := C0
  have hts : ∀ w ∈ lw_all, w.before #[Value.ref b] s = true := fun w h => hts0 w (lw_all_tbl h)
  have hown : s.vm.findClass "LoopVersionerLaw" = some m.cls := hown
  have hA : ∀ q : Nat, s.heap.size ≤ q → (fun q : Nat => s.heap.size ≤ q) q := fun _ h => h
  have hbA : ¬ (fun q : Nat => s.heap.size ≤ q) b := Nat.not_le.mpr hbl
  refine lv_aload_n hx hb dL_law_256 rfl (lv_at hl 2 rfl) ?_
  refine lv_aload_n hx hb dL_law_257 rfl (lv_at hl 1 rfl) ?_
  refine lv_iload_n hx hb dL_law_258 rfl (lv_at hl 0 rfl) ?_
  refine lv_iconst (v := 1) hx hb dL_law_259 (by decide) ?_
  refine lv_iadd hx hb dL_law_260 ?_
  refine va_sld hx hb hX hbl hbA hS (law_in (j := 1) h5 hL (by decide)) dL_law_261 ?_
  refine lv_aload_n hx hb dL_law_262 rfl (lv_at hl 1 rfl) ?_
  refine lv_iload_n hx hb dL_law_263 rfl (lv_at hl 0 rfl) ?_
  refine lv_iconst (v := 2) hx hb dL_law_264 (by decide) ?_
  refine lv_iadd hx hb dL_law_265 ?_
  refine va_sld hx hb hX hbl hbA hS (law_in (j := 2) h5 hL (by decide)) dL_law_266 ?_
  have hPc := hP.sub (ws' := xwU dA dZ ax qx u v) [0, 1, 2, 3, 4, 5, 6, 7, 8, 9, 10] rfl
  have hDc := hD.sub (ws' := xwU dA dZ ax qx u v) [0, 1, 2, 3, 4, 5, 6, 7, 8, 9, 10] (by decide) rfl
  have hFc := va_free (wc := xwU dA dZ ax qx u v) hD hS hA [0, 1, 2, 3, 4, 5, 6, 7, 8, 9, 10] rfl
  refine va_calli (va_runV (As := [.int (xs ((nI (5 * k)) + 1).toNatClampNeg), .int (xs ((nI (5 * k)) + 2).toNatClampNeg)]) (rest := []) ⟨hx, hb, hml, hown, hts⟩ (metX0_poke l dC dI dA dZ ax qx u v H.size (xs ((nI (5 * k)) + 1).toNatClampNeg) (xs ((nI (5 * k)) + 2).toNatClampNeg)) (cwV 2 hts (lw_V q134 q135 q136 q14 q137) rfl rfl rfl (by decide +kernel) ⟨Nat.le_of_ble_eq_true rfl, Nat.le_of_ble_eq_true rfl⟩) ⟨ha_M_blind, va_recv hK hPc (ci := 0) (q0 := 0) rfl rfl, fun U hU hW => ⟨rfl, by rw [hU], by rw [hU]; exact hPc, va_K.moved hW.alike hK, hDc.weaken (fun _ _ _ _ => trivial)⟩⟩ rfl rfl hl.1 rfl (lv_room (Nat.le_of_ble_eq_true rfl)) dL_law_267 ⟨Nat.le_of_ble_eq_true rfl, Nat.le_of_ble_eq_true rfl⟩) hS (fun q _ h => hFc q h) hFc (fun r1 y_ t H1 locs ht hvm hw hB hz1 hk1 hS => ?_)
  obtain ⟨u1, v1⟩ := y_
  have hw1 : (r1, u1) = aPoke u (xs ((nI (5 * k)) + 1).toNatClampNeg) (xs ((nI (5 * k)) + 2).toNatClampNeg) := hw
  obtain ⟨hP1, hK1, hD1⟩ := hB
  rw [ht] at hP1
  obtain ⟨hP, hD⟩ := va_join (wr := mwU dA am qm u) hP hD [0, 1, 2, 3, 4, 5, 6, 7, 8, 9, 10] [11, 12, 13, 14, 15, 16, 17] rfl rfl (by decide) (by decide) hk1 hFc hP1 hD1
  generalize H1 = H at hP hS ⊢
  have hP : va_P (dC, dI) vwCl (mwU dA am qm u ++ xwU dA dZ ax qx u1 v1) H := hP
  have hD : va_D (fun q : Nat => s.heap.size ≤ q) (mwU dA am qm u ++ xwU dA dZ ax qx u1 v1) := hD
  refine lv_aload_n hx hb dL_law_270 rfl (lv_at hl 3 rfl) ?_
  refine lv_aload_n hx hb dL_law_271 rfl (lv_at hl 1 rfl) ?_
  refine lv_iload_n hx hb dL_law_272 rfl (lv_at hl 0 rfl) ?_
  refine lv_iconst (v := 1) hx hb dL_law_273 (by decide) ?_
  refine lv_iadd hx hb dL_law_274 ?_
  refine va_sld hx hb hX hbl hbA hS (law_in (j := 1) h5 hL (by decide)) dL_law_275 ?_
  refine lv_aload_n hx hb dL_law_276 rfl (lv_at hl 1 rfl) ?_
  refine lv_iload_n hx hb dL_law_277 rfl (lv_at hl 0 rfl) ?_
  refine lv_iconst (v := 2) hx hb dL_law_278 (by decide) ?_
  refine lv_iadd hx hb dL_law_279 ?_
  refine va_sld hx hb hX hbl hbA hS (law_in (j := 2) h5 hL (by decide)) dL_law_280 ?_
  have hKm := hK.sub (tys' := mT dA) [0] rfl
  have hPc := hP.sub (ws' := mwU dA am qm u) [0, 1, 2, 3, 4, 5, 6] rfl
  have hDc := hD.sub (ws' := mwU dA am qm u) [0, 1, 2, 3, 4, 5, 6] (by decide) rfl
  have hFc := va_free (wc := mwU dA am qm u) hD hS hA [0, 1, 2, 3, 4, 5, 6] rfl
  refine va_calli (va_runV (As := [.int (xs ((nI (5 * k)) + 1).toNatClampNeg), .int (xs ((nI (5 * k)) + 2).toNatClampNeg)]) (rest := [.int r1]) ⟨hx, hb, hml, hown, hts⟩ (metX1_poke l dC dI dA am qm u H.size (xs ((nI (5 * k)) + 1).toNatClampNeg) (xs ((nI (5 * k)) + 2).toNatClampNeg)) (cwV 2 hts (lw_V q248 q249 q250 q15 q251) rfl rfl rfl (by decide +kernel) ⟨Nat.le_of_ble_eq_true rfl, Nat.le_of_ble_eq_true rfl⟩) ⟨ha_M_blind, va_recv hKm hPc (ci := 1) (q0 := 0) rfl rfl, fun U hU hW => ⟨rfl, by rw [hU], by rw [hU]; exact hPc, va_K.moved hW.alike hKm, hDc.weaken (fun _ _ _ _ => trivial)⟩⟩ rfl rfl hl.1 rfl (lv_room (Nat.le_of_ble_eq_true rfl)) dL_law_281 ⟨Nat.le_of_ble_eq_true rfl, Nat.le_of_ble_eq_true rfl⟩) hS (fun q _ h => hFc q h) hFc (fun r2 y_ t H1 locs ht hvm hw hB hz1 hk1 hS => ?_)
  obtain ⟨u2, eu2⟩ : ∃ z, z = y_ := ⟨_, rfl⟩
  subst eu2
  have hw2 : (r2, u2) = aPoke u (xs ((nI (5 * k)) + 1).toNatClampNeg) (xs ((nI (5 * k)) + 2).toNatClampNeg) := hw
  obtain ⟨hP1, hK1, hD1⟩ := hB
  rw [ht] at hP1
  obtain ⟨hP, hD⟩ := va_join (wr := xwU dA dZ ax qx u1 v1) hP hD [0, 1, 2, 3, 4, 5, 6] [7, 8, 9, 10, 11, 12, 13, 14, 15, 16, 17] rfl rfl (by decide) (by decide) hk1 hFc hP1 hD1
  generalize H1 = H at hP hS ⊢
  have hP : va_P (dC, dI) vwCl (xwU dA dZ ax qx u1 v1 ++ mwU dA am qm u2) H := hP
  have hD : va_D (fun q : Nat => s.heap.size ≤ q) (xwU dA dZ ax qx u1 v1 ++ mwU dA am qm u2) := hD
  refine lv_icmp_eq (tgt := 523) hx hb dL_law_284 (by decide) (fun c_1 => ?_) (fun c_1 => ?_)
  · obtain ⟨-, rfl⟩ := Prod.mk.inj (hw1.trans hw2.symm)
    have hI1 := aInv_poke hI (xs ((nI (5 * k)) + 1).toNatClampNeg) (xs ((nI (5 * k)) + 2).toNatClampNeg)
    rw [← hw1] at hI1
    exact K u1 v1 H locs hI1 hP hD hS
  · exact absurd (Prod.mk.inj (hw1.trans hw2.symm)).1 c_1
set_option maxHeartbeats 4000000 in
set_option maxRecDepth 100000 in
/-- the law's call 7: fill -/
theorem law_c7 {p : Program} {l : Launch} {e : Env} {s : State} {m : MethodId} {below : List Frame} {meth : Method} {c : Code} {dC : Nat → ClassId} {dI : Nat → Nat → Nat} {dA dZ : ClassId} {b L ax am : Nat} {qx qm : Nat → Nat} {xs : Nat → Int32} (hL : L ≤ 320) (C0 : lw_At p s m meth c b L xs) (hK : va_K (dC, dI) vwCl (xT dA dZ) s) {k : Nat} (h5 : 5 * k + 5 ≤ L) {u : ha_U} {v : ha_V} (hI : aInv u) {H : Heap} {locs : List Loc} (hP : va_P (dC, dI) vwCl (xwU dA dZ ax qx u v ++ mwU dA am qm u) H) (hD : va_D (fun q : Nat => s.heap.size ≤ q) (xwU dA dZ ax qx u v ++ mwU dA am qm u)) (hS : va_S (fun q : Nat => s.heap.size ≤ q) s.heap H locs) {ls : Array Slot} (hl : lv_has ls 4 [(3, .int (nI (5 * k))), (0, .ref b), (1, .ref ax), (2, .ref am)])
    (K : ∀ (u : ha_U) (v : ha_V) (H : Heap) (locs : List Loc), aInv u → va_P (dC, dI) vwCl (xwU dA dZ ax qx u v ++ mwU dA am qm u) H → va_D (fun q : Nat => s.heap.size ≤ q) (xwU dA dZ ax qx u v ++ mwU dA am qm u) → va_S (fun q : Nat => s.heap.size ≤ q) s.heap H locs → W p l e room_1 s m #[Value.ref b] below meth c H locs 600000 7290000 (lw_Z below #[Value.ref b] s) (F0 m 523 ls [])) : W p l e room_1 s m #[Value.ref b] below meth c H locs 600000 7290000 (lw_Z below #[Value.ref b] s) (F0 m 289 ls []) := by
  obtain ⟨hx, hb, hr, hml, hown, hts0, hX, hbl, hlocks, hgv⟩ := C0
  have hts : ∀ w ∈ lw_all, w.before #[Value.ref b] s = true := fun w h => hts0 w (lw_all_tbl h)
  have hown : s.vm.findClass "LoopVersionerLaw" = some m.cls := hown
  have hA : ∀ q : Nat, s.heap.size ≤ q → (fun q : Nat => s.heap.size ≤ q) q := fun _ h => h
  have hbA : ¬ (fun q : Nat => s.heap.size ≤ q) b := Nat.not_le.mpr hbl
  refine lv_aload_n hx hb dL_law_289 rfl (lv_at hl 2 rfl) ?_
  refine lv_aload_n hx hb dL_law_290 rfl (lv_at hl 1 rfl) ?_
  refine lv_iload_n hx hb dL_law_291 rfl (lv_at hl 0 rfl) ?_
  refine lv_iconst (v := 1) hx hb dL_law_292 (by decide) ?_
  refine lv_iadd hx hb dL_law_293 ?_
  refine va_sld hx hb hX hbl hbA hS (law_in (j := 1) h5 hL (by decide)) dL_law_294 ?_
  refine lv_aload_n hx hb dL_law_295 rfl (lv_at hl 1 rfl) ?_
  refine lv_iload_n hx hb dL_law_296 rfl (lv_at hl 0 rfl) ?_
  refine lv_iconst (v := 2) hx hb dL_law_297 (by decide) ?_
  refine lv_iadd hx hb dL_law_298 ?_
  refine va_sld hx hb hX hbl hbA hS (law_in (j := 2) h5 hL (by decide)) dL_law_299 ?_
  refine lv_aload_n hx hb dL_law_300 rfl (lv_at hl 1 rfl) ?_
  refine lv_iload_n hx hb dL_law_301 rfl (lv_at hl 0 rfl) ?_
  refine lv_iconst (v := 3) hx hb dL_law_302 (by decide) ?_
  refine lv_iadd hx hb dL_law_303 ?_
  refine va_sld hx hb hX hbl hbA hS (law_in (j := 3) h5 hL (by decide)) dL_law_304 ?_
  refine lv_aload_n hx hb dL_law_305 rfl (lv_at hl 1 rfl) ?_
  refine lv_iload_n hx hb dL_law_306 rfl (lv_at hl 0 rfl) ?_
  refine lv_iconst (v := 4) hx hb dL_law_307 (by decide) ?_
  refine lv_iadd hx hb dL_law_308 ?_
  refine va_sld hx hb hX hbl hbA hS (law_in (j := 4) h5 hL (by decide)) dL_law_309 ?_
  have hPc := hP.sub (ws' := xwU dA dZ ax qx u v) [0, 1, 2, 3, 4, 5, 6, 7, 8, 9, 10] rfl
  have hDc := hD.sub (ws' := xwU dA dZ ax qx u v) [0, 1, 2, 3, 4, 5, 6, 7, 8, 9, 10] (by decide) rfl
  have hFc := va_free (wc := xwU dA dZ ax qx u v) hD hS hA [0, 1, 2, 3, 4, 5, 6, 7, 8, 9, 10] rfl
  refine va_calli (va_runV (As := [.int (xs ((nI (5 * k)) + 1).toNatClampNeg), .int (xs ((nI (5 * k)) + 2).toNatClampNeg), .int (xs ((nI (5 * k)) + 3).toNatClampNeg), .int (xs ((nI (5 * k)) + 4).toNatClampNeg)]) (rest := []) ⟨hx, hb, hml, hown, hts⟩ (metX0_fill l dC dI dA dZ ax qx u v H.size (xs ((nI (5 * k)) + 1).toNatClampNeg) (xs ((nI (5 * k)) + 2).toNatClampNeg) (xs ((nI (5 * k)) + 3).toNatClampNeg) (xs ((nI (5 * k)) + 4).toNatClampNeg)) (cwV 4 hts (lw_V q138 q139 q140 q14 q141) rfl rfl rfl (by decide +kernel) ⟨Nat.le_of_ble_eq_true rfl, Nat.le_of_ble_eq_true rfl⟩) ⟨ha_M_blind, va_recv hK hPc (ci := 0) (q0 := 0) rfl rfl, fun U hU hW => ⟨rfl, by rw [hU], by rw [hU]; exact hPc, va_K.moved hW.alike hK, hDc.weaken (fun _ _ _ _ => trivial)⟩⟩ rfl rfl hl.1 rfl (lv_room (Nat.le_of_ble_eq_true rfl)) dL_law_310 ⟨Nat.le_of_ble_eq_true rfl, Nat.le_of_ble_eq_true rfl⟩) hS (fun q _ h => hFc q h) hFc (fun r1 y_ t H1 locs ht hvm hw hB hz1 hk1 hS => ?_)
  obtain ⟨u1, v1⟩ := y_
  have hw1 : (r1, u1) = aFill u (xs ((nI (5 * k)) + 1).toNatClampNeg) (xs ((nI (5 * k)) + 2).toNatClampNeg) (xs ((nI (5 * k)) + 3).toNatClampNeg) (xs ((nI (5 * k)) + 4).toNatClampNeg) := hw
  obtain ⟨hP1, hK1, hD1⟩ := hB
  rw [ht] at hP1
  obtain ⟨hP, hD⟩ := va_join (wr := mwU dA am qm u) hP hD [0, 1, 2, 3, 4, 5, 6, 7, 8, 9, 10] [11, 12, 13, 14, 15, 16, 17] rfl rfl (by decide) (by decide) hk1 hFc hP1 hD1
  generalize H1 = H at hP hS ⊢
  have hP : va_P (dC, dI) vwCl (mwU dA am qm u ++ xwU dA dZ ax qx u1 v1) H := hP
  have hD : va_D (fun q : Nat => s.heap.size ≤ q) (mwU dA am qm u ++ xwU dA dZ ax qx u1 v1) := hD
  refine lv_aload_n hx hb dL_law_313 rfl (lv_at hl 3 rfl) ?_
  refine lv_aload_n hx hb dL_law_314 rfl (lv_at hl 1 rfl) ?_
  refine lv_iload_n hx hb dL_law_315 rfl (lv_at hl 0 rfl) ?_
  refine lv_iconst (v := 1) hx hb dL_law_316 (by decide) ?_
  refine lv_iadd hx hb dL_law_317 ?_
  refine va_sld hx hb hX hbl hbA hS (law_in (j := 1) h5 hL (by decide)) dL_law_318 ?_
  refine lv_aload_n hx hb dL_law_319 rfl (lv_at hl 1 rfl) ?_
  refine lv_iload_n hx hb dL_law_320 rfl (lv_at hl 0 rfl) ?_
  refine lv_iconst (v := 2) hx hb dL_law_321 (by decide) ?_
  refine lv_iadd hx hb dL_law_322 ?_
  refine va_sld hx hb hX hbl hbA hS (law_in (j := 2) h5 hL (by decide)) dL_law_323 ?_
  refine lv_aload_n hx hb dL_law_324 rfl (lv_at hl 1 rfl) ?_
  refine lv_iload_n hx hb dL_law_325 rfl (lv_at hl 0 rfl) ?_
  refine lv_iconst (v := 3) hx hb dL_law_326 (by decide) ?_
  refine lv_iadd hx hb dL_law_327 ?_
  refine va_sld hx hb hX hbl hbA hS (law_in (j := 3) h5 hL (by decide)) dL_law_328 ?_
  refine lv_aload_n hx hb dL_law_329 rfl (lv_at hl 1 rfl) ?_
  refine lv_iload_n hx hb dL_law_330 rfl (lv_at hl 0 rfl) ?_
  refine lv_iconst (v := 4) hx hb dL_law_331 (by decide) ?_
  refine lv_iadd hx hb dL_law_332 ?_
  refine va_sld hx hb hX hbl hbA hS (law_in (j := 4) h5 hL (by decide)) dL_law_333 ?_
  have hKm := hK.sub (tys' := mT dA) [0] rfl
  have hPc := hP.sub (ws' := mwU dA am qm u) [0, 1, 2, 3, 4, 5, 6] rfl
  have hDc := hD.sub (ws' := mwU dA am qm u) [0, 1, 2, 3, 4, 5, 6] (by decide) rfl
  have hFc := va_free (wc := mwU dA am qm u) hD hS hA [0, 1, 2, 3, 4, 5, 6] rfl
  refine va_calli (va_runV (As := [.int (xs ((nI (5 * k)) + 1).toNatClampNeg), .int (xs ((nI (5 * k)) + 2).toNatClampNeg), .int (xs ((nI (5 * k)) + 3).toNatClampNeg), .int (xs ((nI (5 * k)) + 4).toNatClampNeg)]) (rest := [.int r1]) ⟨hx, hb, hml, hown, hts⟩ (metX1_fill l dC dI dA am qm u H.size (xs ((nI (5 * k)) + 1).toNatClampNeg) (xs ((nI (5 * k)) + 2).toNatClampNeg) (xs ((nI (5 * k)) + 3).toNatClampNeg) (xs ((nI (5 * k)) + 4).toNatClampNeg)) (cwV 4 hts (lw_V q252 q253 q254 q15 q255) rfl rfl rfl (by decide +kernel) ⟨Nat.le_of_ble_eq_true rfl, Nat.le_of_ble_eq_true rfl⟩) ⟨ha_M_blind, va_recv hKm hPc (ci := 1) (q0 := 0) rfl rfl, fun U hU hW => ⟨rfl, by rw [hU], by rw [hU]; exact hPc, va_K.moved hW.alike hKm, hDc.weaken (fun _ _ _ _ => trivial)⟩⟩ rfl rfl hl.1 rfl (lv_room (Nat.le_of_ble_eq_true rfl)) dL_law_334 ⟨Nat.le_of_ble_eq_true rfl, Nat.le_of_ble_eq_true rfl⟩) hS (fun q _ h => hFc q h) hFc (fun r2 y_ t H1 locs ht hvm hw hB hz1 hk1 hS => ?_)
  obtain ⟨u2, eu2⟩ : ∃ z, z = y_ := ⟨_, rfl⟩
  subst eu2
  have hw2 : (r2, u2) = aFill u (xs ((nI (5 * k)) + 1).toNatClampNeg) (xs ((nI (5 * k)) + 2).toNatClampNeg) (xs ((nI (5 * k)) + 3).toNatClampNeg) (xs ((nI (5 * k)) + 4).toNatClampNeg) := hw
  obtain ⟨hP1, hK1, hD1⟩ := hB
  rw [ht] at hP1
  obtain ⟨hP, hD⟩ := va_join (wr := xwU dA dZ ax qx u1 v1) hP hD [0, 1, 2, 3, 4, 5, 6] [7, 8, 9, 10, 11, 12, 13, 14, 15, 16, 17] rfl rfl (by decide) (by decide) hk1 hFc hP1 hD1
  generalize H1 = H at hP hS ⊢
  have hP : va_P (dC, dI) vwCl (xwU dA dZ ax qx u1 v1 ++ mwU dA am qm u2) H := hP
  have hD : va_D (fun q : Nat => s.heap.size ≤ q) (xwU dA dZ ax qx u1 v1 ++ mwU dA am qm u2) := hD
  refine lv_icmp_eq (tgt := 523) hx hb dL_law_337 (by decide) (fun c_1 => ?_) (fun c_1 => ?_)
  · obtain ⟨-, rfl⟩ := Prod.mk.inj (hw1.trans hw2.symm)
    have hI1 := aInv_fill hI (xs ((nI (5 * k)) + 1).toNatClampNeg) (xs ((nI (5 * k)) + 2).toNatClampNeg) (xs ((nI (5 * k)) + 3).toNatClampNeg) (xs ((nI (5 * k)) + 4).toNatClampNeg)
    rw [← hw1] at hI1
    exact K u1 v1 H locs hI1 hP hD hS
  · exact absurd (Prod.mk.inj (hw1.trans hw2.symm)).1 c_1
end
section
set_option maxHeartbeats 4000000 in
set_option maxRecDepth 100000 in
/-- the law's call 8: peek -/
theorem law_c8 {p : Program} {l : Launch} {e : Env} {s : State} {m : MethodId} {below : List Frame} {meth : Method} {c : Code} {dC : Nat → ClassId} {dI : Nat → Nat → Nat} {dA dZ : ClassId} {b L ax am : Nat} {qx qm : Nat → Nat} {xs : Nat → Int32} (hL : L ≤ 320) (C0 : lw_At p s m meth c b L xs) (hK : va_K (dC, dI) vwCl (xT dA dZ) s) {k : Nat} (h5 : 5 * k + 5 ≤ L) {u : ha_U} {v : ha_V} (hI : aInv u) {H : Heap} {locs : List Loc} (hP : va_P (dC, dI) vwCl (xwU dA dZ ax qx u v ++ mwU dA am qm u) H) (hD : va_D (fun q : Nat => s.heap.size ≤ q) (xwU dA dZ ax qx u v ++ mwU dA am qm u)) (hS : va_S (fun q : Nat => s.heap.size ≤ q) s.heap H locs) {ls : Array Slot} (hl : lv_has ls 4 [(3, .int (nI (5 * k))), (0, .ref b), (1, .ref ax), (2, .ref am)])
    (K : ∀ (u : ha_U) (v : ha_V) (H : Heap) (locs : List Loc), aInv u → va_P (dC, dI) vwCl (xwU dA dZ ax qx u v ++ mwU dA am qm u) H → va_D (fun q : Nat => s.heap.size ≤ q) (xwU dA dZ ax qx u v ++ mwU dA am qm u) → va_S (fun q : Nat => s.heap.size ≤ q) s.heap H locs → W p l e room_1 s m #[Value.ref b] below meth c H locs 600000 7290000 (lw_Z below #[Value.ref b] s) (F0 m 523 ls [])) : W p l e room_1 s m #[Value.ref b] below meth c H locs 600000 7290000 (lw_Z below #[Value.ref b] s) (F0 m 342 ls []) := by
  obtain ⟨hx, hb, hr, hml, hown, hts0, hX, hbl, hlocks, hgv⟩ := C0
  have hts : ∀ w ∈ lw_all, w.before #[Value.ref b] s = true := fun w h => hts0 w (lw_all_tbl h)
  have hown : s.vm.findClass "LoopVersionerLaw" = some m.cls := hown
  have hA : ∀ q : Nat, s.heap.size ≤ q → (fun q : Nat => s.heap.size ≤ q) q := fun _ h => h
  have hbA : ¬ (fun q : Nat => s.heap.size ≤ q) b := Nat.not_le.mpr hbl
  refine lv_aload_n hx hb dL_law_342 rfl (lv_at hl 2 rfl) ?_
  refine lv_aload_n hx hb dL_law_343 rfl (lv_at hl 1 rfl) ?_
  refine lv_iload_n hx hb dL_law_344 rfl (lv_at hl 0 rfl) ?_
  refine lv_iconst (v := 1) hx hb dL_law_345 (by decide) ?_
  refine lv_iadd hx hb dL_law_346 ?_
  refine va_sld hx hb hX hbl hbA hS (law_in (j := 1) h5 hL (by decide)) dL_law_347 ?_
  have hPc := hP.sub (ws' := xwU dA dZ ax qx u v) [0, 1, 2, 3, 4, 5, 6, 7, 8, 9, 10] rfl
  refine vp_callSi (W.runV (As := [.int (xs ((nI (5 * k)) + 1).toNatClampNeg)]) (rest := []) ⟨hx, hb, hml, hown, hts⟩ (metX0_peek l dC dI dA dZ ax qx u v (xs ((nI (5 * k)) + 1).toNatClampNeg)) (cwV 1 hts (lw_V q142 q143 q144 q14 q145) rfl rfl rfl (by decide +kernel) ⟨Nat.le_of_ble_eq_true rfl, Nat.le_of_ble_eq_true rfl⟩) ⟨ha_R_blind, va_recv hK hPc (ci := 0) (q0 := 0) rfl rfl, fun U hU hW => ⟨rfl, by rw [hU]; exact hPc, va_K.moved hW.alike hK⟩⟩ rfl rfl hl.1 rfl (lv_room (Nat.le_of_ble_eq_true rfl)) dL_law_348 ⟨Nat.le_of_ble_eq_true rfl, Nat.le_of_ble_eq_true rfl⟩) (fun r1 hw1 => ?_)
  have hw1 : r1 = aPeek u (xs ((nI (5 * k)) + 1).toNatClampNeg) := hw1
  refine lv_aload_n hx hb dL_law_351 rfl (lv_at hl 3 rfl) ?_
  refine lv_aload_n hx hb dL_law_352 rfl (lv_at hl 1 rfl) ?_
  refine lv_iload_n hx hb dL_law_353 rfl (lv_at hl 0 rfl) ?_
  refine lv_iconst (v := 1) hx hb dL_law_354 (by decide) ?_
  refine lv_iadd hx hb dL_law_355 ?_
  refine va_sld hx hb hX hbl hbA hS (law_in (j := 1) h5 hL (by decide)) dL_law_356 ?_
  have hPc := hP.sub (ws' := mwU dA am qm u) [11, 12, 13, 14, 15, 16, 17] rfl
  have hKm := hK.sub (tys' := mT dA) [0] rfl
  refine vp_callSi (W.runV (As := [.int (xs ((nI (5 * k)) + 1).toNatClampNeg)]) (rest := [.int r1]) ⟨hx, hb, hml, hown, hts⟩ (metX1_peek l dC dI dA am qm u (xs ((nI (5 * k)) + 1).toNatClampNeg)) (cwV 1 hts (lw_V q256 q257 q258 q15 q259) rfl rfl rfl (by decide +kernel) ⟨Nat.le_of_ble_eq_true rfl, Nat.le_of_ble_eq_true rfl⟩) ⟨ha_R_blind, va_recv hKm hPc (ci := 1) (q0 := 0) rfl rfl, fun U hU hW => ⟨rfl, by rw [hU]; exact hPc, va_K.moved hW.alike hKm⟩⟩ rfl rfl hl.1 rfl (lv_room (Nat.le_of_ble_eq_true rfl)) dL_law_357 ⟨Nat.le_of_ble_eq_true rfl, Nat.le_of_ble_eq_true rfl⟩) (fun r2 hw2 => ?_)
  have hw2 : r2 = aPeek u (xs ((nI (5 * k)) + 1).toNatClampNeg) := hw2
  refine lv_icmp_eq (tgt := 523) hx hb dL_law_360 (by decide) (fun c_1 => ?_) (fun c_1 => ?_)
  · exact K u v H locs hI hP hD hS
  · exact absurd (hw1.trans hw2.symm) c_1
set_option maxHeartbeats 4000000 in
set_option maxRecDepth 100000 in
/-- the law's call 9: total -/
theorem law_c9 {p : Program} {l : Launch} {e : Env} {s : State} {m : MethodId} {below : List Frame} {meth : Method} {c : Code} {dC : Nat → ClassId} {dI : Nat → Nat → Nat} {dA dZ : ClassId} {b L ax am : Nat} {qx qm : Nat → Nat} {xs : Nat → Int32} (hL : L ≤ 320) (C0 : lw_At p s m meth c b L xs) (hK : va_K (dC, dI) vwCl (xT dA dZ) s) {k : Nat} (h5 : 5 * k + 5 ≤ L) {u : ha_U} {v : ha_V} (hI : aInv u) {H : Heap} {locs : List Loc} (hP : va_P (dC, dI) vwCl (xwU dA dZ ax qx u v ++ mwU dA am qm u) H) (hD : va_D (fun q : Nat => s.heap.size ≤ q) (xwU dA dZ ax qx u v ++ mwU dA am qm u)) (hS : va_S (fun q : Nat => s.heap.size ≤ q) s.heap H locs) {ls : Array Slot} (hl : lv_has ls 4 [(3, .int (nI (5 * k))), (0, .ref b), (1, .ref ax), (2, .ref am)])
    (K : ∀ (u : ha_U) (v : ha_V) (H : Heap) (locs : List Loc), aInv u → va_P (dC, dI) vwCl (xwU dA dZ ax qx u v ++ mwU dA am qm u) H → va_D (fun q : Nat => s.heap.size ≤ q) (xwU dA dZ ax qx u v ++ mwU dA am qm u) → va_S (fun q : Nat => s.heap.size ≤ q) s.heap H locs → W p l e room_1 s m #[Value.ref b] below meth c H locs 600000 7290000 (lw_Z below #[Value.ref b] s) (F0 m 523 ls [])) : W p l e room_1 s m #[Value.ref b] below meth c H locs 600000 7290000 (lw_Z below #[Value.ref b] s) (F0 m 365 ls []) := by
  obtain ⟨hx, hb, hr, hml, hown, hts0, hX, hbl, hlocks, hgv⟩ := C0
  have hts : ∀ w ∈ lw_all, w.before #[Value.ref b] s = true := fun w h => hts0 w (lw_all_tbl h)
  have hown : s.vm.findClass "LoopVersionerLaw" = some m.cls := hown
  have hA : ∀ q : Nat, s.heap.size ≤ q → (fun q : Nat => s.heap.size ≤ q) q := fun _ h => h
  have hbA : ¬ (fun q : Nat => s.heap.size ≤ q) b := Nat.not_le.mpr hbl
  refine lv_aload_n hx hb dL_law_365 rfl (lv_at hl 2 rfl) ?_
  have hPc := hP.sub (ws' := xwU dA dZ ax qx u v) [0, 1, 2, 3, 4, 5, 6, 7, 8, 9, 10] rfl
  refine vp_callSi (W.runV (As := []) (rest := []) ⟨hx, hb, hml, hown, hts⟩ (metX0_total l dC dI dA dZ ax qx u v) (cwV 0 hts (lw_V q146 q147 q148 q14 q149) rfl rfl rfl (by decide +kernel) ⟨Nat.le_of_ble_eq_true rfl, Nat.le_of_ble_eq_true rfl⟩) ⟨ha_R_blind, va_recv hK hPc (ci := 0) (q0 := 0) rfl rfl, fun U hU hW => ⟨rfl, by rw [hU]; exact hPc, va_K.moved hW.alike hK⟩⟩ rfl rfl hl.1 rfl (lv_room (Nat.le_of_ble_eq_true rfl)) dL_law_366 ⟨Nat.le_of_ble_eq_true rfl, Nat.le_of_ble_eq_true rfl⟩) (fun r1 hw1 => ?_)
  have hw1 : r1 = u.2.2.2.2.2.2.2 := hw1
  refine lv_aload_n hx hb dL_law_369 rfl (lv_at hl 3 rfl) ?_
  have hPc := hP.sub (ws' := mwU dA am qm u) [11, 12, 13, 14, 15, 16, 17] rfl
  have hKm := hK.sub (tys' := mT dA) [0] rfl
  refine vp_callSi (W.runV (As := []) (rest := [.int r1]) ⟨hx, hb, hml, hown, hts⟩ (metX1_total l dC dI dA am qm u) (cwV 0 hts (lw_V q260 q261 q262 q15 q263) rfl rfl rfl (by decide +kernel) ⟨Nat.le_of_ble_eq_true rfl, Nat.le_of_ble_eq_true rfl⟩) ⟨ha_R_blind, va_recv hKm hPc (ci := 1) (q0 := 0) rfl rfl, fun U hU hW => ⟨rfl, by rw [hU]; exact hPc, va_K.moved hW.alike hKm⟩⟩ rfl rfl hl.1 rfl (lv_room (Nat.le_of_ble_eq_true rfl)) dL_law_370 ⟨Nat.le_of_ble_eq_true rfl, Nat.le_of_ble_eq_true rfl⟩) (fun r2 hw2 => ?_)
  have hw2 : r2 = u.2.2.2.2.2.2.2 := hw2
  refine lv_icmp_eq (tgt := 523) hx hb dL_law_373 (by decide) (fun c_1 => ?_) (fun c_1 => ?_)
  · exact K u v H locs hI hP hD hS
  · exact absurd (hw1.trans hw2.symm) c_1
set_option maxHeartbeats 4000000 in
set_option maxRecDepth 100000 in
/-- the law's call 10: setTotal -/
theorem law_c10 {p : Program} {l : Launch} {e : Env} {s : State} {m : MethodId} {below : List Frame} {meth : Method} {c : Code} {dC : Nat → ClassId} {dI : Nat → Nat → Nat} {dA dZ : ClassId} {b L ax am : Nat} {qx qm : Nat → Nat} {xs : Nat → Int32} (hL : L ≤ 320) (C0 : lw_At p s m meth c b L xs) (hK : va_K (dC, dI) vwCl (xT dA dZ) s) {k : Nat} (h5 : 5 * k + 5 ≤ L) {u : ha_U} {v : ha_V} (hI : aInv u) {H : Heap} {locs : List Loc} (hP : va_P (dC, dI) vwCl (xwU dA dZ ax qx u v ++ mwU dA am qm u) H) (hD : va_D (fun q : Nat => s.heap.size ≤ q) (xwU dA dZ ax qx u v ++ mwU dA am qm u)) (hS : va_S (fun q : Nat => s.heap.size ≤ q) s.heap H locs) {ls : Array Slot} (hl : lv_has ls 4 [(3, .int (nI (5 * k))), (0, .ref b), (1, .ref ax), (2, .ref am)])
    (K : ∀ (u : ha_U) (v : ha_V) (H : Heap) (locs : List Loc), aInv u → va_P (dC, dI) vwCl (xwU dA dZ ax qx u v ++ mwU dA am qm u) H → va_D (fun q : Nat => s.heap.size ≤ q) (xwU dA dZ ax qx u v ++ mwU dA am qm u) → va_S (fun q : Nat => s.heap.size ≤ q) s.heap H locs → W p l e room_1 s m #[Value.ref b] below meth c H locs 600000 7290000 (lw_Z below #[Value.ref b] s) (F0 m 523 ls [])) : W p l e room_1 s m #[Value.ref b] below meth c H locs 600000 7290000 (lw_Z below #[Value.ref b] s) (F0 m 378 ls []) := by
  obtain ⟨hx, hb, hr, hml, hown, hts0, hX, hbl, hlocks, hgv⟩ := C0
  have hts : ∀ w ∈ lw_all, w.before #[Value.ref b] s = true := fun w h => hts0 w (lw_all_tbl h)
  have hown : s.vm.findClass "LoopVersionerLaw" = some m.cls := hown
  have hA : ∀ q : Nat, s.heap.size ≤ q → (fun q : Nat => s.heap.size ≤ q) q := fun _ h => h
  have hbA : ¬ (fun q : Nat => s.heap.size ≤ q) b := Nat.not_le.mpr hbl
  refine lv_aload_n hx hb dL_law_378 rfl (lv_at hl 2 rfl) ?_
  refine lv_aload_n hx hb dL_law_379 rfl (lv_at hl 1 rfl) ?_
  refine lv_iload_n hx hb dL_law_380 rfl (lv_at hl 0 rfl) ?_
  refine lv_iconst (v := 1) hx hb dL_law_381 (by decide) ?_
  refine lv_iadd hx hb dL_law_382 ?_
  refine va_sld hx hb hX hbl hbA hS (law_in (j := 1) h5 hL (by decide)) dL_law_383 ?_
  have hPc := hP.sub (ws' := xwU dA dZ ax qx u v) [0, 1, 2, 3, 4, 5, 6, 7, 8, 9, 10] rfl
  have hDc := hD.sub (ws' := xwU dA dZ ax qx u v) [0, 1, 2, 3, 4, 5, 6, 7, 8, 9, 10] (by decide) rfl
  have hFc := va_free (wc := xwU dA dZ ax qx u v) hD hS hA [0, 1, 2, 3, 4, 5, 6, 7, 8, 9, 10] rfl
  refine va_calli (va_runV (As := [.int (xs ((nI (5 * k)) + 1).toNatClampNeg)]) (rest := []) ⟨hx, hb, hml, hown, hts⟩ (metX0_setTotal l dC dI dA dZ ax qx u v H.size (xs ((nI (5 * k)) + 1).toNatClampNeg)) (cwV 1 hts (lw_V q150 q151 q152 q14 q153) rfl rfl rfl (by decide +kernel) ⟨Nat.le_of_ble_eq_true rfl, Nat.le_of_ble_eq_true rfl⟩) ⟨ha_M_blind, va_recv hK hPc (ci := 0) (q0 := 0) rfl rfl, fun U hU hW => ⟨rfl, by rw [hU], by rw [hU]; exact hPc, va_K.moved hW.alike hK, hDc.weaken (fun _ _ _ _ => trivial)⟩⟩ rfl rfl hl.1 rfl (lv_room (Nat.le_of_ble_eq_true rfl)) dL_law_384 ⟨Nat.le_of_ble_eq_true rfl, Nat.le_of_ble_eq_true rfl⟩) hS (fun q _ h => hFc q h) hFc (fun r1 y_ t H1 locs ht hvm hw hB hz1 hk1 hS => ?_)
  obtain ⟨u1, v1⟩ := y_
  have hw1 : (r1, u1) = aSetTotal u (xs ((nI (5 * k)) + 1).toNatClampNeg) := hw
  obtain ⟨hP1, hK1, hD1⟩ := hB
  rw [ht] at hP1
  obtain ⟨hP, hD⟩ := va_join (wr := mwU dA am qm u) hP hD [0, 1, 2, 3, 4, 5, 6, 7, 8, 9, 10] [11, 12, 13, 14, 15, 16, 17] rfl rfl (by decide) (by decide) hk1 hFc hP1 hD1
  generalize H1 = H at hP hS ⊢
  have hP : va_P (dC, dI) vwCl (mwU dA am qm u ++ xwU dA dZ ax qx u1 v1) H := hP
  have hD : va_D (fun q : Nat => s.heap.size ≤ q) (mwU dA am qm u ++ xwU dA dZ ax qx u1 v1) := hD
  refine lv_aload_n hx hb dL_law_387 rfl (lv_at hl 3 rfl) ?_
  refine lv_aload_n hx hb dL_law_388 rfl (lv_at hl 1 rfl) ?_
  refine lv_iload_n hx hb dL_law_389 rfl (lv_at hl 0 rfl) ?_
  refine lv_iconst (v := 1) hx hb dL_law_390 (by decide) ?_
  refine lv_iadd hx hb dL_law_391 ?_
  refine va_sld hx hb hX hbl hbA hS (law_in (j := 1) h5 hL (by decide)) dL_law_392 ?_
  have hKm := hK.sub (tys' := mT dA) [0] rfl
  have hPc := hP.sub (ws' := mwU dA am qm u) [0, 1, 2, 3, 4, 5, 6] rfl
  have hDc := hD.sub (ws' := mwU dA am qm u) [0, 1, 2, 3, 4, 5, 6] (by decide) rfl
  have hFc := va_free (wc := mwU dA am qm u) hD hS hA [0, 1, 2, 3, 4, 5, 6] rfl
  refine va_calli (va_runV (As := [.int (xs ((nI (5 * k)) + 1).toNatClampNeg)]) (rest := [.int r1]) ⟨hx, hb, hml, hown, hts⟩ (metX1_setTotal l dC dI dA am qm u H.size (xs ((nI (5 * k)) + 1).toNatClampNeg)) (cwV 1 hts (lw_V q264 q265 q266 q15 q267) rfl rfl rfl (by decide +kernel) ⟨Nat.le_of_ble_eq_true rfl, Nat.le_of_ble_eq_true rfl⟩) ⟨ha_M_blind, va_recv hKm hPc (ci := 1) (q0 := 0) rfl rfl, fun U hU hW => ⟨rfl, by rw [hU], by rw [hU]; exact hPc, va_K.moved hW.alike hKm, hDc.weaken (fun _ _ _ _ => trivial)⟩⟩ rfl rfl hl.1 rfl (lv_room (Nat.le_of_ble_eq_true rfl)) dL_law_393 ⟨Nat.le_of_ble_eq_true rfl, Nat.le_of_ble_eq_true rfl⟩) hS (fun q _ h => hFc q h) hFc (fun r2 y_ t H1 locs ht hvm hw hB hz1 hk1 hS => ?_)
  obtain ⟨u2, eu2⟩ : ∃ z, z = y_ := ⟨_, rfl⟩
  subst eu2
  have hw2 : (r2, u2) = aSetTotal u (xs ((nI (5 * k)) + 1).toNatClampNeg) := hw
  obtain ⟨hP1, hK1, hD1⟩ := hB
  rw [ht] at hP1
  obtain ⟨hP, hD⟩ := va_join (wr := xwU dA dZ ax qx u1 v1) hP hD [0, 1, 2, 3, 4, 5, 6] [7, 8, 9, 10, 11, 12, 13, 14, 15, 16, 17] rfl rfl (by decide) (by decide) hk1 hFc hP1 hD1
  generalize H1 = H at hP hS ⊢
  have hP : va_P (dC, dI) vwCl (xwU dA dZ ax qx u1 v1 ++ mwU dA am qm u2) H := hP
  have hD : va_D (fun q : Nat => s.heap.size ≤ q) (xwU dA dZ ax qx u1 v1 ++ mwU dA am qm u2) := hD
  refine lv_icmp_eq (tgt := 523) hx hb dL_law_396 (by decide) (fun c_1 => ?_) (fun c_1 => ?_)
  · obtain ⟨-, rfl⟩ := Prod.mk.inj (hw1.trans hw2.symm)
    have hI1 := aInv_setTotal hI (xs ((nI (5 * k)) + 1).toNatClampNeg)
    rw [← hw1] at hI1
    exact K u1 v1 H locs hI1 hP hD hS
  · exact absurd (Prod.mk.inj (hw1.trans hw2.symm)).1 c_1
set_option maxHeartbeats 4000000 in
set_option maxRecDepth 100000 in
/-- the law's call 11: digest -/
theorem law_c11 {p : Program} {l : Launch} {e : Env} {s : State} {m : MethodId} {below : List Frame} {meth : Method} {c : Code} {dC : Nat → ClassId} {dI : Nat → Nat → Nat} {dA dZ : ClassId} {b L ax am : Nat} {qx qm : Nat → Nat} {xs : Nat → Int32} (hL : L ≤ 320) (C0 : lw_At p s m meth c b L xs) (hK : va_K (dC, dI) vwCl (xT dA dZ) s) {k : Nat} (h5 : 5 * k + 5 ≤ L) {u : ha_U} {v : ha_V} (hI : aInv u) {H : Heap} {locs : List Loc} (hP : va_P (dC, dI) vwCl (xwU dA dZ ax qx u v ++ mwU dA am qm u) H) (hD : va_D (fun q : Nat => s.heap.size ≤ q) (xwU dA dZ ax qx u v ++ mwU dA am qm u)) (hS : va_S (fun q : Nat => s.heap.size ≤ q) s.heap H locs) {ls : Array Slot} (hl : lv_has ls 4 [(3, .int (nI (5 * k))), (0, .ref b), (1, .ref ax), (2, .ref am)])
    (K : ∀ (u : ha_U) (v : ha_V) (H : Heap) (locs : List Loc), aInv u → va_P (dC, dI) vwCl (xwU dA dZ ax qx u v ++ mwU dA am qm u) H → va_D (fun q : Nat => s.heap.size ≤ q) (xwU dA dZ ax qx u v ++ mwU dA am qm u) → va_S (fun q : Nat => s.heap.size ≤ q) s.heap H locs → W p l e room_1 s m #[Value.ref b] below meth c H locs 600000 7290000 (lw_Z below #[Value.ref b] s) (F0 m 523 ls [])) : W p l e room_1 s m #[Value.ref b] below meth c H locs 600000 7290000 (lw_Z below #[Value.ref b] s) (F0 m 401 ls []) := by
  obtain ⟨hx, hb, hr, hml, hown, hts0, hX, hbl, hlocks, hgv⟩ := C0
  have hts : ∀ w ∈ lw_all, w.before #[Value.ref b] s = true := fun w h => hts0 w (lw_all_tbl h)
  have hown : s.vm.findClass "LoopVersionerLaw" = some m.cls := hown
  have hA : ∀ q : Nat, s.heap.size ≤ q → (fun q : Nat => s.heap.size ≤ q) q := fun _ h => h
  have hbA : ¬ (fun q : Nat => s.heap.size ≤ q) b := Nat.not_le.mpr hbl
  refine lv_aload_n hx hb dL_law_401 rfl (lv_at hl 2 rfl) ?_
  have hPc := hP.sub (ws' := xwU dA dZ ax qx u v) [0, 1, 2, 3, 4, 5, 6, 7, 8, 9, 10] rfl
  refine vp_callSi (W.runV (As := []) (rest := []) ⟨hx, hb, hml, hown, hts⟩ (metX0_digest l dC dI dA dZ ax qx u v) (cwV 0 hts (lw_V q154 q155 q156 q14 q157) rfl rfl rfl (by decide +kernel) ⟨Nat.le_of_ble_eq_true rfl, Nat.le_of_ble_eq_true rfl⟩) ⟨ha_R_blind, va_recv hK hPc (ci := 0) (q0 := 0) rfl rfl, fun U hU hW => ⟨rfl, by rw [hU]; exact hPc, va_K.moved hW.alike hK⟩⟩ rfl rfl hl.1 rfl (lv_room (Nat.le_of_ble_eq_true rfl)) dL_law_402 ⟨Nat.le_of_ble_eq_true rfl, Nat.le_of_ble_eq_true rfl⟩) (fun r1 hw1 => ?_)
  have hw1 : r1 = xDig u.1 64 := hw1
  refine lv_aload_n hx hb dL_law_405 rfl (lv_at hl 3 rfl) ?_
  have hPc := hP.sub (ws' := mwU dA am qm u) [11, 12, 13, 14, 15, 16, 17] rfl
  have hKm := hK.sub (tys' := mT dA) [0] rfl
  refine vp_callSi (W.runV (As := []) (rest := [.int r1]) ⟨hx, hb, hml, hown, hts⟩ (metX1_digest l dC dI dA am qm u) (cwV 0 hts (lw_V q268 q269 q270 q15 q271) rfl rfl rfl (by decide +kernel) ⟨Nat.le_of_ble_eq_true rfl, Nat.le_of_ble_eq_true rfl⟩) ⟨ha_R_blind, va_recv hKm hPc (ci := 1) (q0 := 0) rfl rfl, fun U hU hW => ⟨rfl, by rw [hU]; exact hPc, va_K.moved hW.alike hKm⟩⟩ rfl rfl hl.1 rfl (lv_room (Nat.le_of_ble_eq_true rfl)) dL_law_406 ⟨Nat.le_of_ble_eq_true rfl, Nat.le_of_ble_eq_true rfl⟩) (fun r2 hw2 => ?_)
  have hw2 : r2 = xDig u.1 64 := hw2
  refine lv_icmp_eq (tgt := 523) hx hb dL_law_409 (by decide) (fun c_1 => ?_) (fun c_1 => ?_)
  · exact K u v H locs hI hP hD hS
  · exact absurd (hw1.trans hw2.symm) c_1
set_option maxHeartbeats 4000000 in
set_option maxRecDepth 100000 in
/-- the law's call 12: cellOf -/
theorem law_c12 {p : Program} {l : Launch} {e : Env} {s : State} {m : MethodId} {below : List Frame} {meth : Method} {c : Code} {dC : Nat → ClassId} {dI : Nat → Nat → Nat} {dA dZ : ClassId} {b L ax am : Nat} {qx qm : Nat → Nat} {xs : Nat → Int32} (hL : L ≤ 320) (C0 : lw_At p s m meth c b L xs) (hK : va_K (dC, dI) vwCl (xT dA dZ) s) {k : Nat} (h5 : 5 * k + 5 ≤ L) {u : ha_U} {v : ha_V} (hI : aInv u) {H : Heap} {locs : List Loc} (hP : va_P (dC, dI) vwCl (xwU dA dZ ax qx u v ++ mwU dA am qm u) H) (hD : va_D (fun q : Nat => s.heap.size ≤ q) (xwU dA dZ ax qx u v ++ mwU dA am qm u)) (hS : va_S (fun q : Nat => s.heap.size ≤ q) s.heap H locs) {ls : Array Slot} (hl : lv_has ls 4 [(3, .int (nI (5 * k))), (0, .ref b), (1, .ref ax), (2, .ref am)])
    (K : ∀ (u : ha_U) (v : ha_V) (H : Heap) (locs : List Loc), aInv u → va_P (dC, dI) vwCl (xwU dA dZ ax qx u v ++ mwU dA am qm u) H → va_D (fun q : Nat => s.heap.size ≤ q) (xwU dA dZ ax qx u v ++ mwU dA am qm u) → va_S (fun q : Nat => s.heap.size ≤ q) s.heap H locs → W p l e room_1 s m #[Value.ref b] below meth c H locs 600000 7290000 (lw_Z below #[Value.ref b] s) (F0 m 523 ls [])) : W p l e room_1 s m #[Value.ref b] below meth c H locs 600000 7290000 (lw_Z below #[Value.ref b] s) (F0 m 414 ls []) := by
  obtain ⟨hx, hb, hr, hml, hown, hts0, hX, hbl, hlocks, hgv⟩ := C0
  have hts : ∀ w ∈ lw_all, w.before #[Value.ref b] s = true := fun w h => hts0 w (lw_all_tbl h)
  have hown : s.vm.findClass "LoopVersionerLaw" = some m.cls := hown
  have hA : ∀ q : Nat, s.heap.size ≤ q → (fun q : Nat => s.heap.size ≤ q) q := fun _ h => h
  have hbA : ¬ (fun q : Nat => s.heap.size ≤ q) b := Nat.not_le.mpr hbl
  refine lv_aload_n hx hb dL_law_414 rfl (lv_at hl 2 rfl) ?_
  refine lv_aload_n hx hb dL_law_415 rfl (lv_at hl 1 rfl) ?_
  refine lv_iload_n hx hb dL_law_416 rfl (lv_at hl 0 rfl) ?_
  refine lv_iconst (v := 1) hx hb dL_law_417 (by decide) ?_
  refine lv_iadd hx hb dL_law_418 ?_
  refine va_sld hx hb hX hbl hbA hS (law_in (j := 1) h5 hL (by decide)) dL_law_419 ?_
  refine lv_aload_n hx hb dL_law_420 rfl (lv_at hl 1 rfl) ?_
  refine lv_iload_n hx hb dL_law_421 rfl (lv_at hl 0 rfl) ?_
  refine lv_iconst (v := 2) hx hb dL_law_422 (by decide) ?_
  refine lv_iadd hx hb dL_law_423 ?_
  refine va_sld hx hb hX hbl hbA hS (law_in (j := 2) h5 hL (by decide)) dL_law_424 ?_
  have hPc := hP.sub (ws' := xwU dA dZ ax qx u v) [0, 1, 2, 3, 4, 5, 6, 7, 8, 9, 10] rfl
  refine vp_callSi (W.runV (As := [.int (xs ((nI (5 * k)) + 1).toNatClampNeg), .int (xs ((nI (5 * k)) + 2).toNatClampNeg)]) (rest := []) ⟨hx, hb, hml, hown, hts⟩ (metX0_cellOf l dC dI dA dZ ax qx u v (xs ((nI (5 * k)) + 1).toNatClampNeg) (xs ((nI (5 * k)) + 2).toNatClampNeg)) (cwV 2 hts (lw_V q158 q159 q160 q14 q161) rfl rfl rfl (by decide +kernel) ⟨Nat.le_of_ble_eq_true rfl, Nat.le_of_ble_eq_true rfl⟩) ⟨ha_R_blind, va_recv hK hPc (ci := 0) (q0 := 0) rfl rfl, fun U hU hW => ⟨rfl, by rw [hU]; exact hPc, va_K.moved hW.alike hK⟩⟩ rfl rfl hl.1 rfl (lv_room (Nat.le_of_ble_eq_true rfl)) dL_law_425 ⟨Nat.le_of_ble_eq_true rfl, Nat.le_of_ble_eq_true rfl⟩) (fun r1 hw1 => ?_)
  have hw1 : r1 = aCellOf u (xs ((nI (5 * k)) + 1).toNatClampNeg) (xs ((nI (5 * k)) + 2).toNatClampNeg) := hw1
  refine lv_aload_n hx hb dL_law_428 rfl (lv_at hl 3 rfl) ?_
  refine lv_aload_n hx hb dL_law_429 rfl (lv_at hl 1 rfl) ?_
  refine lv_iload_n hx hb dL_law_430 rfl (lv_at hl 0 rfl) ?_
  refine lv_iconst (v := 1) hx hb dL_law_431 (by decide) ?_
  refine lv_iadd hx hb dL_law_432 ?_
  refine va_sld hx hb hX hbl hbA hS (law_in (j := 1) h5 hL (by decide)) dL_law_433 ?_
  refine lv_aload_n hx hb dL_law_434 rfl (lv_at hl 1 rfl) ?_
  refine lv_iload_n hx hb dL_law_435 rfl (lv_at hl 0 rfl) ?_
  refine lv_iconst (v := 2) hx hb dL_law_436 (by decide) ?_
  refine lv_iadd hx hb dL_law_437 ?_
  refine va_sld hx hb hX hbl hbA hS (law_in (j := 2) h5 hL (by decide)) dL_law_438 ?_
  have hPc := hP.sub (ws' := mwU dA am qm u) [11, 12, 13, 14, 15, 16, 17] rfl
  have hKm := hK.sub (tys' := mT dA) [0] rfl
  refine vp_callSi (W.runV (As := [.int (xs ((nI (5 * k)) + 1).toNatClampNeg), .int (xs ((nI (5 * k)) + 2).toNatClampNeg)]) (rest := [.int r1]) ⟨hx, hb, hml, hown, hts⟩ (metX1_cellOf l dC dI dA am qm u (xs ((nI (5 * k)) + 1).toNatClampNeg) (xs ((nI (5 * k)) + 2).toNatClampNeg)) (cwV 2 hts (lw_V q272 q273 q274 q15 q275) rfl rfl rfl (by decide +kernel) ⟨Nat.le_of_ble_eq_true rfl, Nat.le_of_ble_eq_true rfl⟩) ⟨ha_R_blind, va_recv hKm hPc (ci := 1) (q0 := 0) rfl rfl, fun U hU hW => ⟨rfl, by rw [hU]; exact hPc, va_K.moved hW.alike hKm⟩⟩ rfl rfl hl.1 rfl (lv_room (Nat.le_of_ble_eq_true rfl)) dL_law_439 ⟨Nat.le_of_ble_eq_true rfl, Nat.le_of_ble_eq_true rfl⟩) (fun r2 hw2 => ?_)
  have hw2 : r2 = aCellOf u (xs ((nI (5 * k)) + 1).toNatClampNeg) (xs ((nI (5 * k)) + 2).toNatClampNeg) := hw2
  refine lv_icmp_eq (tgt := 523) hx hb dL_law_442 (by decide) (fun c_1 => ?_) (fun c_1 => ?_)
  · exact K u v H locs hI hP hD hS
  · exact absurd (hw1.trans hw2.symm) c_1
set_option maxHeartbeats 4000000 in
set_option maxRecDepth 100000 in
/-- the law's call 13: spread -/
theorem law_c13 {p : Program} {l : Launch} {e : Env} {s : State} {m : MethodId} {below : List Frame} {meth : Method} {c : Code} {dC : Nat → ClassId} {dI : Nat → Nat → Nat} {dA dZ : ClassId} {b L ax am : Nat} {qx qm : Nat → Nat} {xs : Nat → Int32} (hL : L ≤ 320) (C0 : lw_At p s m meth c b L xs) (hK : va_K (dC, dI) vwCl (xT dA dZ) s) {k : Nat} (h5 : 5 * k + 5 ≤ L) {u : ha_U} {v : ha_V} (hI : aInv u) {H : Heap} {locs : List Loc} (hP : va_P (dC, dI) vwCl (xwU dA dZ ax qx u v ++ mwU dA am qm u) H) (hD : va_D (fun q : Nat => s.heap.size ≤ q) (xwU dA dZ ax qx u v ++ mwU dA am qm u)) (hS : va_S (fun q : Nat => s.heap.size ≤ q) s.heap H locs) {ls : Array Slot} (hl : lv_has ls 4 [(3, .int (nI (5 * k))), (0, .ref b), (1, .ref ax), (2, .ref am)])
    (K : ∀ (u : ha_U) (v : ha_V) (H : Heap) (locs : List Loc), aInv u → va_P (dC, dI) vwCl (xwU dA dZ ax qx u v ++ mwU dA am qm u) H → va_D (fun q : Nat => s.heap.size ≤ q) (xwU dA dZ ax qx u v ++ mwU dA am qm u) → va_S (fun q : Nat => s.heap.size ≤ q) s.heap H locs → W p l e room_1 s m #[Value.ref b] below meth c H locs 600000 7290000 (lw_Z below #[Value.ref b] s) (F0 m 523 ls [])) : W p l e room_1 s m #[Value.ref b] below meth c H locs 600000 7290000 (lw_Z below #[Value.ref b] s) (F0 m 447 ls []) := by
  obtain ⟨hx, hb, hr, hml, hown, hts0, hX, hbl, hlocks, hgv⟩ := C0
  have hts : ∀ w ∈ lw_all, w.before #[Value.ref b] s = true := fun w h => hts0 w (lw_all_tbl h)
  have hown : s.vm.findClass "LoopVersionerLaw" = some m.cls := hown
  have hA : ∀ q : Nat, s.heap.size ≤ q → (fun q : Nat => s.heap.size ≤ q) q := fun _ h => h
  have hbA : ¬ (fun q : Nat => s.heap.size ≤ q) b := Nat.not_le.mpr hbl
  refine lv_aload_n hx hb dL_law_447 rfl (lv_at hl 2 rfl) ?_
  refine lv_aload_n hx hb dL_law_448 rfl (lv_at hl 1 rfl) ?_
  refine lv_iload_n hx hb dL_law_449 rfl (lv_at hl 0 rfl) ?_
  refine lv_iconst (v := 1) hx hb dL_law_450 (by decide) ?_
  refine lv_iadd hx hb dL_law_451 ?_
  refine va_sld hx hb hX hbl hbA hS (law_in (j := 1) h5 hL (by decide)) dL_law_452 ?_
  refine lv_aload_n hx hb dL_law_453 rfl (lv_at hl 1 rfl) ?_
  refine lv_iload_n hx hb dL_law_454 rfl (lv_at hl 0 rfl) ?_
  refine lv_iconst (v := 2) hx hb dL_law_455 (by decide) ?_
  refine lv_iadd hx hb dL_law_456 ?_
  refine va_sld hx hb hX hbl hbA hS (law_in (j := 2) h5 hL (by decide)) dL_law_457 ?_
  have hPc := hP.sub (ws' := xwU dA dZ ax qx u v) [0, 1, 2, 3, 4, 5, 6, 7, 8, 9, 10] rfl
  refine vp_callSi (W.runV (As := [.int (xs ((nI (5 * k)) + 1).toNatClampNeg), .int (xs ((nI (5 * k)) + 2).toNatClampNeg)]) (rest := []) ⟨hx, hb, hml, hown, hts⟩ (metX0_spread l dC dI dA dZ ax qx u v (xs ((nI (5 * k)) + 1).toNatClampNeg) (xs ((nI (5 * k)) + 2).toNatClampNeg)) (cwV 2 hts (lw_V q162 q163 q164 q14 q165) rfl rfl rfl (by decide +kernel) ⟨Nat.le_of_ble_eq_true rfl, Nat.le_of_ble_eq_true rfl⟩) ⟨ha_R_blind, va_recv hK hPc (ci := 0) (q0 := 0) rfl rfl, fun U hU hW => ⟨rfl, by rw [hU]; exact hPc, va_K.moved hW.alike hK⟩⟩ rfl rfl hl.1 rfl (lv_room (Nat.le_of_ble_eq_true rfl)) dL_law_458 ⟨Nat.le_of_ble_eq_true rfl, Nat.le_of_ble_eq_true rfl⟩) (fun r1 hw1 => ?_)
  have hw1 : r1 = aSpread u (xs ((nI (5 * k)) + 1).toNatClampNeg) (xs ((nI (5 * k)) + 2).toNatClampNeg) := hw1
  refine lv_aload_n hx hb dL_law_461 rfl (lv_at hl 3 rfl) ?_
  refine lv_aload_n hx hb dL_law_462 rfl (lv_at hl 1 rfl) ?_
  refine lv_iload_n hx hb dL_law_463 rfl (lv_at hl 0 rfl) ?_
  refine lv_iconst (v := 1) hx hb dL_law_464 (by decide) ?_
  refine lv_iadd hx hb dL_law_465 ?_
  refine va_sld hx hb hX hbl hbA hS (law_in (j := 1) h5 hL (by decide)) dL_law_466 ?_
  refine lv_aload_n hx hb dL_law_467 rfl (lv_at hl 1 rfl) ?_
  refine lv_iload_n hx hb dL_law_468 rfl (lv_at hl 0 rfl) ?_
  refine lv_iconst (v := 2) hx hb dL_law_469 (by decide) ?_
  refine lv_iadd hx hb dL_law_470 ?_
  refine va_sld hx hb hX hbl hbA hS (law_in (j := 2) h5 hL (by decide)) dL_law_471 ?_
  have hPc := hP.sub (ws' := mwU dA am qm u) [11, 12, 13, 14, 15, 16, 17] rfl
  have hKm := hK.sub (tys' := mT dA) [0] rfl
  refine vp_callSi (W.runV (As := [.int (xs ((nI (5 * k)) + 1).toNatClampNeg), .int (xs ((nI (5 * k)) + 2).toNatClampNeg)]) (rest := [.int r1]) ⟨hx, hb, hml, hown, hts⟩ (metX1_spread l dC dI dA am qm u (xs ((nI (5 * k)) + 1).toNatClampNeg) (xs ((nI (5 * k)) + 2).toNatClampNeg)) (cwV 2 hts (lw_V q276 q277 q278 q15 q279) rfl rfl rfl (by decide +kernel) ⟨Nat.le_of_ble_eq_true rfl, Nat.le_of_ble_eq_true rfl⟩) ⟨ha_R_blind, va_recv hKm hPc (ci := 1) (q0 := 0) rfl rfl, fun U hU hW => ⟨rfl, by rw [hU]; exact hPc, va_K.moved hW.alike hKm⟩⟩ rfl rfl hl.1 rfl (lv_room (Nat.le_of_ble_eq_true rfl)) dL_law_472 ⟨Nat.le_of_ble_eq_true rfl, Nat.le_of_ble_eq_true rfl⟩) (fun r2 hw2 => ?_)
  have hw2 : r2 = aSpread u (xs ((nI (5 * k)) + 1).toNatClampNeg) (xs ((nI (5 * k)) + 2).toNatClampNeg) := hw2
  refine lv_icmp_eq (tgt := 523) hx hb dL_law_475 (by decide) (fun c_1 => ?_) (fun c_1 => ?_)
  · exact K u v H locs hI hP hD hS
  · exact absurd (hw1.trans hw2.symm) c_1
set_option maxHeartbeats 4000000 in
set_option maxRecDepth 100000 in
/-- the law's call 14: meet -/
theorem law_c14 {p : Program} {l : Launch} {e : Env} {s : State} {m : MethodId} {below : List Frame} {meth : Method} {c : Code} {dC : Nat → ClassId} {dI : Nat → Nat → Nat} {dA dZ : ClassId} {b L ax am : Nat} {qx qm : Nat → Nat} {xs : Nat → Int32} (hL : L ≤ 320) (C0 : lw_At p s m meth c b L xs) (hK : va_K (dC, dI) vwCl (xT dA dZ) s) {k : Nat} (h5 : 5 * k + 5 ≤ L) {u : ha_U} {v : ha_V} (hI : aInv u) {H : Heap} {locs : List Loc} (hP : va_P (dC, dI) vwCl (xwU dA dZ ax qx u v ++ mwU dA am qm u) H) (hD : va_D (fun q : Nat => s.heap.size ≤ q) (xwU dA dZ ax qx u v ++ mwU dA am qm u)) (hS : va_S (fun q : Nat => s.heap.size ≤ q) s.heap H locs) {ls : Array Slot} (hl : lv_has ls 4 [(3, .int (nI (5 * k))), (0, .ref b), (1, .ref ax), (2, .ref am)])
    (K : ∀ (u : ha_U) (v : ha_V) (H : Heap) (locs : List Loc), aInv u → va_P (dC, dI) vwCl (xwU dA dZ ax qx u v ++ mwU dA am qm u) H → va_D (fun q : Nat => s.heap.size ≤ q) (xwU dA dZ ax qx u v ++ mwU dA am qm u) → va_S (fun q : Nat => s.heap.size ≤ q) s.heap H locs → W p l e room_1 s m #[Value.ref b] below meth c H locs 600000 7290000 (lw_Z below #[Value.ref b] s) (F0 m 523 ls [])) : W p l e room_1 s m #[Value.ref b] below meth c H locs 600000 7290000 (lw_Z below #[Value.ref b] s) (F0 m 480 ls []) := by
  obtain ⟨hx, hb, hr, hml, hown, hts0, hX, hbl, hlocks, hgv⟩ := C0
  have hts : ∀ w ∈ lw_all, w.before #[Value.ref b] s = true := fun w h => hts0 w (lw_all_tbl h)
  have hown : s.vm.findClass "LoopVersionerLaw" = some m.cls := hown
  have hA : ∀ q : Nat, s.heap.size ≤ q → (fun q : Nat => s.heap.size ≤ q) q := fun _ h => h
  have hbA : ¬ (fun q : Nat => s.heap.size ≤ q) b := Nat.not_le.mpr hbl
  refine lv_aload_n hx hb dL_law_480 rfl (lv_at hl 2 rfl) ?_
  refine lv_aload_n hx hb dL_law_481 rfl (lv_at hl 1 rfl) ?_
  refine lv_iload_n hx hb dL_law_482 rfl (lv_at hl 0 rfl) ?_
  refine lv_iconst (v := 1) hx hb dL_law_483 (by decide) ?_
  refine lv_iadd hx hb dL_law_484 ?_
  refine va_sld hx hb hX hbl hbA hS (law_in (j := 1) h5 hL (by decide)) dL_law_485 ?_
  refine lv_aload_n hx hb dL_law_486 rfl (lv_at hl 1 rfl) ?_
  refine lv_iload_n hx hb dL_law_487 rfl (lv_at hl 0 rfl) ?_
  refine lv_iconst (v := 2) hx hb dL_law_488 (by decide) ?_
  refine lv_iadd hx hb dL_law_489 ?_
  refine va_sld hx hb hX hbl hbA hS (law_in (j := 2) h5 hL (by decide)) dL_law_490 ?_
  refine lv_aload_n hx hb dL_law_491 rfl (lv_at hl 1 rfl) ?_
  refine lv_iload_n hx hb dL_law_492 rfl (lv_at hl 0 rfl) ?_
  refine lv_iconst (v := 3) hx hb dL_law_493 (by decide) ?_
  refine lv_iadd hx hb dL_law_494 ?_
  refine va_sld hx hb hX hbl hbA hS (law_in (j := 3) h5 hL (by decide)) dL_law_495 ?_
  have hPc := hP.sub (ws' := xwU dA dZ ax qx u v) [0, 1, 2, 3, 4, 5, 6, 7, 8, 9, 10] rfl
  refine vp_callSi (W.runV (As := [.int (xs ((nI (5 * k)) + 1).toNatClampNeg), .int (xs ((nI (5 * k)) + 2).toNatClampNeg), .int (xs ((nI (5 * k)) + 3).toNatClampNeg)]) (rest := []) ⟨hx, hb, hml, hown, hts⟩ (metX0_meet l dC dI dA dZ ax qx u v (xs ((nI (5 * k)) + 1).toNatClampNeg) (xs ((nI (5 * k)) + 2).toNatClampNeg) (xs ((nI (5 * k)) + 3).toNatClampNeg)) (cwV 3 hts (lw_V q177 q178 q179 q14 q180) rfl rfl rfl (by decide +kernel) ⟨Nat.le_of_ble_eq_true rfl, Nat.le_of_ble_eq_true rfl⟩) ⟨ha_R_blind, va_recv hK hPc (ci := 0) (q0 := 0) rfl rfl, fun U hU hW => ⟨rfl, by rw [hU]; exact hPc, va_K.moved hW.alike hK⟩⟩ rfl rfl hl.1 rfl (lv_room (Nat.le_of_ble_eq_true rfl)) dL_law_496 ⟨Nat.le_of_ble_eq_true rfl, Nat.le_of_ble_eq_true rfl⟩) (fun r1 hw1 => ?_)
  have hw1 : r1 = aMeet u (xs ((nI (5 * k)) + 1).toNatClampNeg) (xs ((nI (5 * k)) + 2).toNatClampNeg) (xs ((nI (5 * k)) + 3).toNatClampNeg) := hw1
  refine lv_aload_n hx hb dL_law_499 rfl (lv_at hl 3 rfl) ?_
  refine lv_aload_n hx hb dL_law_500 rfl (lv_at hl 1 rfl) ?_
  refine lv_iload_n hx hb dL_law_501 rfl (lv_at hl 0 rfl) ?_
  refine lv_iconst (v := 1) hx hb dL_law_502 (by decide) ?_
  refine lv_iadd hx hb dL_law_503 ?_
  refine va_sld hx hb hX hbl hbA hS (law_in (j := 1) h5 hL (by decide)) dL_law_504 ?_
  refine lv_aload_n hx hb dL_law_505 rfl (lv_at hl 1 rfl) ?_
  refine lv_iload_n hx hb dL_law_506 rfl (lv_at hl 0 rfl) ?_
  refine lv_iconst (v := 2) hx hb dL_law_507 (by decide) ?_
  refine lv_iadd hx hb dL_law_508 ?_
  refine va_sld hx hb hX hbl hbA hS (law_in (j := 2) h5 hL (by decide)) dL_law_509 ?_
  refine lv_aload_n hx hb dL_law_510 rfl (lv_at hl 1 rfl) ?_
  refine lv_iload_n hx hb dL_law_511 rfl (lv_at hl 0 rfl) ?_
  refine lv_iconst (v := 3) hx hb dL_law_512 (by decide) ?_
  refine lv_iadd hx hb dL_law_513 ?_
  refine va_sld hx hb hX hbl hbA hS (law_in (j := 3) h5 hL (by decide)) dL_law_514 ?_
  have hPc := hP.sub (ws' := mwU dA am qm u) [11, 12, 13, 14, 15, 16, 17] rfl
  have hKm := hK.sub (tys' := mT dA) [0] rfl
  refine vp_callSi (W.runV (As := [.int (xs ((nI (5 * k)) + 1).toNatClampNeg), .int (xs ((nI (5 * k)) + 2).toNatClampNeg), .int (xs ((nI (5 * k)) + 3).toNatClampNeg)]) (rest := [.int r1]) ⟨hx, hb, hml, hown, hts⟩ (metX1_meet l dC dI dA am qm u (xs ((nI (5 * k)) + 1).toNatClampNeg) (xs ((nI (5 * k)) + 2).toNatClampNeg) (xs ((nI (5 * k)) + 3).toNatClampNeg)) (cwV 3 hts (lw_V q284 q285 q286 q15 q287) rfl rfl rfl (by decide +kernel) ⟨Nat.le_of_ble_eq_true rfl, Nat.le_of_ble_eq_true rfl⟩) ⟨ha_R_blind, va_recv hKm hPc (ci := 1) (q0 := 0) rfl rfl, fun U hU hW => ⟨rfl, by rw [hU]; exact hPc, va_K.moved hW.alike hKm⟩⟩ rfl rfl hl.1 rfl (lv_room (Nat.le_of_ble_eq_true rfl)) dL_law_515 ⟨Nat.le_of_ble_eq_true rfl, Nat.le_of_ble_eq_true rfl⟩) (fun r2 hw2 => ?_)
  have hw2 : r2 = aMeet u (xs ((nI (5 * k)) + 1).toNatClampNeg) (xs ((nI (5 * k)) + 2).toNatClampNeg) (xs ((nI (5 * k)) + 3).toNatClampNeg) := hw2
  refine lv_icmp_eq (tgt := 523) hx hb dL_law_518 (by decide) (fun c_1 => ?_) (fun c_1 => ?_)
  · exact K u v H locs hI hP hD hS
  · exact absurd (hw1.trans hw2.symm) c_1
end
section
set_option maxHeartbeats 4000000 in
set_option maxRecDepth 100000 in
/-- the law's loop, from its head -/
theorem law_loop {p : Program} {l : Launch} {e : Env} {s : State} {m : MethodId} {below : List Frame} {meth : Method} {c : Code} {dC : Nat → ClassId} {dI : Nat → Nat → Nat} {dA dZ : ClassId} {b L ax am : Nat} {qx qm : Nat → Nat} {xs : Nat → Int32} (hL : L ≤ 320) (C0 : lw_At p s m meth c b L xs) (hK : va_K (dC, dI) vwCl (xT dA dZ) s) (u : ha_U) (v : ha_V) (hI : aInv u) (H : Heap) (locs : List Loc) (hP : va_P (dC, dI) vwCl (xwU dA dZ ax qx u v ++ mwU dA am qm u) H) (hD : va_D (fun q : Nat => s.heap.size ≤ q) (xwU dA dZ ax qx u v ++ mwU dA am qm u)) (hS : va_S (fun q : Nat => s.heap.size ≤ q) s.heap H locs) (ls : Array Slot) (hl : lv_has ls 4 [(3, .int (nI 0)), (0, .ref b), (1, .ref ax), (2, .ref am)]) : W p l e room_1 s m #[Value.ref b] below meth c H locs 600000 7290000 (lw_Z below #[Value.ref b] s) (F0 m 18 ls []) := by
  refine ha_loop (σ := Nat × ha_U × ha_V × Heap × List Loc × Array Slot) (fun x => L - x.1) (fun x => (5 * x.1 ≤ L) ∧ (aInv x.2.1) ∧ (va_P (dC, dI) vwCl (xwU dA dZ ax qx x.2.1 x.2.2.1 ++ mwU dA am qm x.2.1) x.2.2.2.1) ∧ (va_D (fun q : Nat => s.heap.size ≤ q) (xwU dA dZ ax qx x.2.1 x.2.2.1 ++ mwU dA am qm x.2.1)) ∧ (va_S (fun q : Nat => s.heap.size ≤ q) s.heap x.2.2.2.1 x.2.2.2.2.1) ∧ (lv_has x.2.2.2.2.2 4 [(3, .int (nI (5 * x.1))), (0, .ref b), (1, .ref ax), (2, .ref am)])) (fun x => x.2.2.2.1) (fun x => x.2.2.2.2.1) (fun x => F0 m 18 x.2.2.2.2.2 []) ?_ (0, u, v, H, locs, ls) ⟨Nat.zero_le _, hI, hP, hD, hS, hl⟩
  rintro ⟨k, u, v, H, locs, ls⟩ ⟨hk, hI, hP, hD, hS, hl⟩ ih
  have hk : 5 * k ≤ L := hk
  have hI : aInv u := hI
  have hP : va_P (dC, dI) vwCl (xwU dA dZ ax qx u v ++ mwU dA am qm u) H := hP
  have hD : va_D (fun q : Nat => s.heap.size ≤ q) (xwU dA dZ ax qx u v ++ mwU dA am qm u) := hD
  have hS : va_S (fun q : Nat => s.heap.size ≤ q) s.heap H locs := hS
  have hl : lv_has ls 4 [(3, .int (nI (5 * k))), (0, .ref b), (1, .ref ax), (2, .ref am)] := hl
  show W p l e _ s m _ below meth c H locs _ _ _ (F0 m 18 ls [])
  obtain ⟨hx, hb, hr, hml, hown, hts0, hX, hbl, hlocks, hgv⟩ := id C0
  have hbA : ¬ (fun q : Nat => s.heap.size ≤ q) b := Nat.not_le.mpr hbl
  refine lv_iload_n hx hb dL_law_18 rfl (lv_at hl 0 rfl) ?_
  refine lv_aload_n hx hb dL_law_19 rfl (lv_at hl 1 rfl) ?_
  refine va_slen hx hb hX hbl hbA hS dL_law_20 ?_
  refine lv_iconst (v := 5) hx hb dL_law_21 (by decide) ?_
  refine lv_isub hx hb dL_law_22 ?_
  refine lv_icmp_gt (tgt := 529) hx hb dL_law_23 (by decide) (fun c_1 => ?_) (fun c_1 => ?_)
  · refine lv_iconst (v := 1) hx hb dL_law_529 (by decide) ?_
    refine va_forget (fun q hq => hS.2.2 q hq) ?_
    exact lw_ret hx hb hr hlocks dL_law_530
  · have h5 := law_more hL hk c_1
    have K : ∀ (u : ha_U) (v : ha_V) (H : Heap) (locs : List Loc), aInv u → va_P (dC, dI) vwCl (xwU dA dZ ax qx u v ++ mwU dA am qm u) H → va_D (fun q : Nat => s.heap.size ≤ q) (xwU dA dZ ax qx u v ++ mwU dA am qm u) → va_S (fun q : Nat => s.heap.size ≤ q) s.heap H locs → W p l e room_1 s m #[Value.ref b] below meth c H locs 600000 7290000 (lw_Z below #[Value.ref b] s) (F0 m 523 ls []) := by
      intro u v H locs hI hP hD hS
      refine lv_iinc (v := nI (5 * (k + 1))) (lv' := [(3, .int (nI (5 * (k + 1)))), (0, .ref b), (1, .ref ax), (2, .ref am)]) hx hb dL_law_523 hl (k := 0) rfl (nI_add (5 * k) 5) (by decide) rfl (fun ls hl => ?_)
      refine lv_goto (tgt := 18) hx hb dL_law_526 (by decide) ?_
      exact ih (k + 1, u, v, H, locs, ls) ⟨by omega, hI, hP, hD, hS, hl⟩ (by dsimp only; omega)
    refine lv_aload_n hx hb dL_law_26 rfl (lv_at hl 1 rfl) ?_
    refine lv_iload_n hx hb dL_law_27 rfl (lv_at hl 0 rfl) ?_
    refine va_sld hx hb hX hbl hbA hS (law_in0 h5 hL) dL_law_28 ?_
    refine lv_bipush (v := 15) hx hb dL_law_29 (by decide) ?_
    refine lv_iand hx hb dL_law_31 ?_
    obtain ⟨j, hj, ej⟩ := pk_andE (xs (nI (5 * k)).toNatClampNeg) (m := 15) 4 (by decide)
    rw [ej]
    have hj : j < 16 := hj
    rcases (show j = 0 ∨ j = 1 ∨ j = 2 ∨ j = 3 ∨ j = 4 ∨ j = 5 ∨ j = 6 ∨ j = 7 ∨ j = 8 ∨ j = 9 ∨ j = 10 ∨ j = 11 ∨ j = 12 ∨ j = 13 ∨ j = 14 ∨ j = 15 by omega) with rfl | rfl | rfl | rfl | rfl | rfl | rfl | rfl | rfl | rfl | rfl | rfl | rfl | rfl | rfl | rfl
    · refine lv_tableIn (off := 76) (tgt := 108) hx hb dL_law_32 (by decide) (by decide) (by decide) (by decide) ?_
      exact law_c0 hL C0 hK h5 hI hP hD hS hl K
    · refine lv_tableIn (off := 129) (tgt := 161) hx hb dL_law_32 (by decide) (by decide) (by decide) (by decide) ?_
      exact law_c1 hL C0 hK h5 hI hP hD hS hl K
    · refine lv_tableIn (off := 142) (tgt := 174) hx hb dL_law_32 (by decide) (by decide) (by decide) (by decide) ?_
      exact law_c2 hL C0 hK h5 hI hP hD hS hl K
    · refine lv_tableIn (off := 155) (tgt := 187) hx hb dL_law_32 (by decide) (by decide) (by decide) (by decide) ?_
      exact law_c3 hL C0 hK h5 hI hP hD hS hl K
    · refine lv_tableIn (off := 168) (tgt := 200) hx hb dL_law_32 (by decide) (by decide) (by decide) (by decide) ?_
      exact law_c4 hL C0 hK h5 hI hP hD hS hl K
    · refine lv_tableIn (off := 201) (tgt := 233) hx hb dL_law_32 (by decide) (by decide) (by decide) (by decide) ?_
      exact law_c5 hL C0 hK h5 hI hP hD hS hl K
    · refine lv_tableIn (off := 224) (tgt := 256) hx hb dL_law_32 (by decide) (by decide) (by decide) (by decide) ?_
      exact law_c6 hL C0 hK h5 hI hP hD hS hl K
    · refine lv_tableIn (off := 257) (tgt := 289) hx hb dL_law_32 (by decide) (by decide) (by decide) (by decide) ?_
      exact law_c7 hL C0 hK h5 hI hP hD hS hl K
    · refine lv_tableIn (off := 310) (tgt := 342) hx hb dL_law_32 (by decide) (by decide) (by decide) (by decide) ?_
      exact law_c8 hL C0 hK h5 hI hP hD hS hl K
    · refine lv_tableIn (off := 333) (tgt := 365) hx hb dL_law_32 (by decide) (by decide) (by decide) (by decide) ?_
      exact law_c9 hL C0 hK h5 hI hP hD hS hl K
    · refine lv_tableIn (off := 346) (tgt := 378) hx hb dL_law_32 (by decide) (by decide) (by decide) (by decide) ?_
      exact law_c10 hL C0 hK h5 hI hP hD hS hl K
    · refine lv_tableIn (off := 369) (tgt := 401) hx hb dL_law_32 (by decide) (by decide) (by decide) (by decide) ?_
      exact law_c11 hL C0 hK h5 hI hP hD hS hl K
    · refine lv_tableIn (off := 382) (tgt := 414) hx hb dL_law_32 (by decide) (by decide) (by decide) (by decide) ?_
      exact law_c12 hL C0 hK h5 hI hP hD hS hl K
    · refine lv_tableIn (off := 415) (tgt := 447) hx hb dL_law_32 (by decide) (by decide) (by decide) (by decide) ?_
      exact law_c13 hL C0 hK h5 hI hP hD hS hl K
    · refine lv_tableIn (off := 448) (tgt := 480) hx hb dL_law_32 (by decide) (by decide) (by decide) (by decide) ?_
      exact law_c14 hL C0 hK h5 hI hP hD hS hl K
    · refine lv_tableOut (tgt := 523) hx hb dL_law_32 (by decide) (by decide) ?_
      exact K u v H locs hI hP hD hS
set_option maxHeartbeats 4000000 in
set_option maxRecDepth 100000 in
/-- the law, from its entry -/
theorem whole_start {p : Program} {e : Env} {s : State} {m : MethodId} {below : List Frame} {meth : Method} {c : Code} (l : Launch) {b L : Nat} {xs : Nat → Int32} (hL : L ≤ 320) (C0 : lw_At p s m meth c b L xs) : W p l e room_1 s m #[Value.ref b] below meth c s.heap [] 0 0 (lw_Z below #[Value.ref b] s) (entryFrame m ([Value.ref b] : List Value).toArray 4) := by
  obtain ⟨hx, hb, hr, hml, hown, hts0, hX, hbl, hlocks, hgv⟩ := id C0
  have hts : ∀ w ∈ lw_all, w.before #[Value.ref b] s = true := fun w h => hts0 w (lw_all_tbl h)
  have hown : s.vm.findClass "LoopVersionerLaw" = some m.cls := hown
  have hA : ∀ q : Nat, s.heap.size ≤ q → (fun q : Nat => s.heap.size ≤ q) q := fun _ h => h
  obtain ⟨c0, iS0, hKn0⟩ := u_known (C := RX0) (T := TX0) (N := 13) (n := 13) hts in_X0 (hts _ q17)
  obtain ⟨c1, iS1, hKn1⟩ := u_known (C := RX1) (T := TX1) (N := 8) (n := 8) hts in_X1 (hts _ q182)
  obtain ⟨dC, dI, hKc⟩ : ∃ (dC : Nat → ClassId) (dI : Nat → Nat → Nat), ∀ (k : Nat) (q : vw_C), vwCl[k]? = some q → u_Kn s q.1 q.2.1 q.2.2 (dC k) (dI k) := by
    refine ⟨fun k => if k = 0 then c0 else c1, fun k => if k = 0 then iS0 else iS1, ?_⟩
    intro k q hq
    match k, hq with
    | 0, hq => cases hq; exact hKn0
    | 1, hq => cases hq; exact hKn1
    | k + 2, hq => simp [vwCl] at hq
  have hS : va_S (fun q : Nat => s.heap.size ≤ q) s.heap s.heap [] := va_S.rf
  have hK : va_K (dC, dI) vwCl [] s := ⟨hKc, fun k q h => by simp at h⟩
  have hP : va_P (dC, dI) vwCl [] s.heap := fun k q h => by simp at h
  have hD : va_D (fun q : Nat => s.heap.size ≤ q) [] := ⟨fun i j p q h => by simp at h, fun k q h => by simp at h⟩
  have hl := lv_entry ([.ref b]) (n := 4) (Nat.le_of_ble_eq_true rfl)
  rw [lg_entry_eq]
  generalize (lg_sl ([.ref b]) ++ List.replicate (4 - (lg_sl ([.ref b])).length) Slot.unset).toArray = ls at hl ⊢
  have hl : lv_has ls 4 [(0, .ref b)] := hl
  refine va_new (ci := 0) (fs := [.null, .null, .null, .null, .null, .null, .null, .null, .null, .null, .int 0, .int 0, .int 0]) (C := RX0) (T := TX0) (N := 13) hx hb hts in_X0 tyX0 tyX0_ok hown (hts _ q16) (hts _ q17) (hts _ q14) hK hP hD hS hA rfl (fun j hj => by rcases (show j = 0 ∨ j = 1 ∨ j = 2 ∨ j = 3 ∨ j = 4 ∨ j = 5 ∨ j = 6 ∨ j = 7 ∨ j = 8 ∨ j = 9 ∨ j = 10 ∨ j = 11 ∨ j = 12 by omega) with rfl | rfl | rfl | rfl | rfl | rfl | rfl | rfl | rfl | rfl | rfl | rfl | rfl <;> rfl) (Nat.le_of_ble_eq_true rfl) (Nat.le_of_ble_eq_true rfl) dL_law_0 (fun ax H hP hD hS => ?_)
  have hP : va_P (dC, dI) vwCl [(ax, .inr (0, [.null, .null, .null, .null, .null, .null, .null, .null, .null, .null, .int 0, .int 0, .int 0]))] H := hP
  have hD : va_D (fun q : Nat => s.heap.size ≤ q) [(ax, .inr (0, [.null, .null, .null, .null, .null, .null, .null, .null, .null, .null, .int 0, .int 0, .int 0]))] := hD
  refine W.widen (k := 1) (n := 13) (by omega) (by omega) ?_
  refine lv_dup hx hb dL_law_3 rfl ?_
  have hPc := hP.sub (ws' := [(ax, .inr (0, [.null, .null, .null, .null, .null, .null, .null, .null, .null, .null, .int 0, .int 0, .int 0]))]) [0] rfl
  have hDc := hD.sub (ws' := [(ax, .inr (0, [.null, .null, .null, .null, .null, .null, .null, .null, .null, .null, .int 0, .int 0, .int 0]))]) [0] (by decide) rfl
  have hKc := hK.sub (tys' := []) [] rfl
  have hFc := va_free (wc := [(ax, .inr (0, [.null, .null, .null, .null, .null, .null, .null, .null, .null, .null, .int 0, .int 0, .int 0]))]) hD hS hA [0] rfl
  refine va_callv (va_runI (As := []) (rest := [.ref ax]) ⟨hx, hb, hml, hown, hts⟩ (metX0_init l dC dI ax H.size) (cwI 0 hts (lw_meth q20) rfl rfl rfl (hts _ q14) (hts _ q18) (hts _ q19) rfl (by decide +kernel) ⟨Nat.le_of_ble_eq_true rfl, Nat.le_of_ble_eq_true rfl⟩) ⟨ha_M_blind, fun U hU hW => ⟨rfl, by rw [hU], by rw [hU]; exact hPc, va_K.moved hW.alike hKc, hDc.weaken (fun _ _ _ _ => trivial)⟩⟩ rfl rfl hl.1 rfl (lv_room (Nat.le_of_ble_eq_true rfl)) dL_law_4 ⟨Nat.le_of_ble_eq_true rfl, Nat.le_of_ble_eq_true rfl⟩) hS (fun q _ h => hFc q h) hFc (fun y_ t H1 locs ht hvm hw hB hz1 hk1 hS => ?_)
  obtain ⟨dA, dZ, qx⟩ := y_
  obtain ⟨hP1, hK1, hD1⟩ := hB
  rw [ht] at hP1
  have hK1 := va_K.moved hvm.symm hK1
  obtain ⟨hP, hD⟩ := va_join (wr := []) hP hD [0] [] rfl rfl (by decide) (by decide) hk1 hFc hP1 hD1
  have hK : va_K (dC, dI) vwCl (xT dA dZ) s := hK1
  generalize H1 = H at hP hS ⊢
  have hP : va_P (dC, dI) vwCl (xw dA dZ ax qx (fun _ => 0) (fun _ => 0) (fun _ => 0) (fun _ => 0) (fun _ => 0) (fun _ => 0) (fun _ => 0) (fun _ => 0) (fun _ => 0) (fun _ => 0) 0 0 0) H := hP
  have hD : va_D (fun q : Nat => s.heap.size ≤ q) (xw dA dZ ax qx (fun _ => 0) (fun _ => 0) (fun _ => 0) (fun _ => 0) (fun _ => 0) (fun _ => 0) (fun _ => 0) (fun _ => 0) (fun _ => 0) (fun _ => 0) 0 0 0) := hD
  refine W.widen (k := 11) (n := 139) (by omega) (by omega) ?_
  refine lv_astore_n (lv' := [(1, .ref ax), (0, .ref b)]) hx hb dL_law_7 rfl hl (by decide) rfl (fun ls hl => ?_)
  refine va_new (ci := 1) (fs := [.null, .null, .int 0, .int 0, .null, .null, .null, .null]) (C := RX1) (T := TX1) (N := 8) hx hb hts in_X1 tyX1 tyX1_ok hown (hts _ q181) (hts _ q182) (hts _ q15) hK hP hD hS hA rfl (fun j hj => by rcases (show j = 0 ∨ j = 1 ∨ j = 2 ∨ j = 3 ∨ j = 4 ∨ j = 5 ∨ j = 6 ∨ j = 7 by omega) with rfl | rfl | rfl | rfl | rfl | rfl | rfl | rfl <;> rfl) (Nat.le_of_ble_eq_true rfl) (Nat.le_of_ble_eq_true rfl) dL_law_8 (fun am H hP hD hS => ?_)
  have hP : va_P (dC, dI) vwCl (xw dA dZ ax qx (fun _ => 0) (fun _ => 0) (fun _ => 0) (fun _ => 0) (fun _ => 0) (fun _ => 0) (fun _ => 0) (fun _ => 0) (fun _ => 0) (fun _ => 0) 0 0 0 ++ [(am, .inr (1, [.null, .null, .int 0, .int 0, .null, .null, .null, .null]))]) H := hP
  have hD : va_D (fun q : Nat => s.heap.size ≤ q) (xw dA dZ ax qx (fun _ => 0) (fun _ => 0) (fun _ => 0) (fun _ => 0) (fun _ => 0) (fun _ => 0) (fun _ => 0) (fun _ => 0) (fun _ => 0) (fun _ => 0) 0 0 0 ++ [(am, .inr (1, [.null, .null, .int 0, .int 0, .null, .null, .null, .null]))]) := hD
  refine W.widen (k := 12) (n := 147) (by omega) (by omega) ?_
  refine lv_dup hx hb dL_law_11 rfl ?_
  have hPc := hP.sub (ws' := [(am, .inr (1, [.null, .null, .int 0, .int 0, .null, .null, .null, .null]))]) [11] rfl
  have hDc := hD.sub (ws' := [(am, .inr (1, [.null, .null, .int 0, .int 0, .null, .null, .null, .null]))]) [11] (by decide) rfl
  have hKc := hK.sub (tys' := []) [] rfl
  have hFc := va_free (wc := [(am, .inr (1, [.null, .null, .int 0, .int 0, .null, .null, .null, .null]))]) hD hS hA [11] rfl
  refine va_callv (va_runI (As := []) (rest := [.ref am]) ⟨hx, hb, hml, hown, hts⟩ (metX1_init l dC dI am H.size) (cwI 0 hts (lw_meth q185) rfl rfl rfl (hts _ q15) (hts _ q183) (hts _ q184) rfl (by decide +kernel) ⟨Nat.le_of_ble_eq_true rfl, Nat.le_of_ble_eq_true rfl⟩) ⟨ha_M_blind, fun U hU hW => ⟨rfl, by rw [hU], by rw [hU]; exact hPc, va_K.moved hW.alike hKc, hDc.weaken (fun _ _ _ _ => trivial)⟩⟩ rfl rfl hl.1 rfl (lv_room (Nat.le_of_ble_eq_true rfl)) dL_law_12 ⟨Nat.le_of_ble_eq_true rfl, Nat.le_of_ble_eq_true rfl⟩) hS (fun q _ h => hFc q h) hFc (fun y_ t H1 locs ht hvm hw hB hz1 hk1 hS => ?_)
  obtain ⟨dM, qm⟩ := y_
  obtain ⟨hP1, hK1, hD1⟩ := hB
  rw [ht] at hP1
  have hK1 := va_K.moved hvm.symm hK1
  obtain ⟨hP, hD⟩ := va_join (wr := xw dA dZ ax qx (fun _ => 0) (fun _ => 0) (fun _ => 0) (fun _ => 0) (fun _ => 0) (fun _ => 0) (fun _ => 0) (fun _ => 0) (fun _ => 0) (fun _ => 0) 0 0 0) hP hD [11] [0, 1, 2, 3, 4, 5, 6, 7, 8, 9, 10] rfl rfl (by decide) (by decide) hk1 hFc hP1 hD1
  have hK2 := hK.app hK1
  obtain rfl := ha_sameI hK2 (i := 0) (j := 2) (a := dA) (b := dM) rfl rfl
  generalize H1 = H at hP hS ⊢
  have hP : va_P (dC, dI) vwCl (xw dA dZ ax qx (fun _ => 0) (fun _ => 0) (fun _ => 0) (fun _ => 0) (fun _ => 0) (fun _ => 0) (fun _ => 0) (fun _ => 0) (fun _ => 0) (fun _ => 0) 0 0 0 ++ mw dA am qm (fun _ => 0) (fun _ => 0) (fun _ => 0) (fun _ => 0) (fun _ => 0) (fun _ => 0) 0 0) H := hP
  have hD : va_D (fun q : Nat => s.heap.size ≤ q) (xw dA dZ ax qx (fun _ => 0) (fun _ => 0) (fun _ => 0) (fun _ => 0) (fun _ => 0) (fun _ => 0) (fun _ => 0) (fun _ => 0) (fun _ => 0) (fun _ => 0) 0 0 0 ++ mw dA am qm (fun _ => 0) (fun _ => 0) (fun _ => 0) (fun _ => 0) (fun _ => 0) (fun _ => 0) 0 0) := hD
  refine W.widen (k := 600000) (n := 7290000) (by omega) (by omega) ?_
  refine lv_astore_n (lv' := [(2, .ref am), (1, .ref ax), (0, .ref b)]) hx hb dL_law_15 rfl hl (by decide) rfl (fun ls hl => ?_)
  refine lv_iconst (v := 0) hx hb dL_law_16 (by decide) ?_
  refine lv_istore_n (lv' := [(3, .int 0), (2, .ref am), (1, .ref ax), (0, .ref b)]) hx hb dL_law_17 rfl hl (by decide) rfl (fun ls hl => ?_)
  exact law_loop hL C0 hK ((fun _ => 0), (fun _ => 0), (fun _ => 0), (fun _ => 0), (fun _ => 0), (fun _ => 0), 0, 0) ((fun _ => 0), (fun _ => 0), (fun _ => 0), (fun _ => 0), 0) aInv_0 H locs hP hD hS ls (lv_sub hl [0, 3, 2, 1] rfl)
end
section
set_option maxRecDepth 100000
set_option maxHeartbeats 4000000 in
theorem lw_walk (l : Launch) (b : Addr) (xs : List Int32) : MetFree l x (headSpec (Jvm.Cond.code x code maxLocals ret :: tables_1) room_1) (lw_P b xs) (fun _ _ _ _ _ => True) lw_Q := by
  refine MetFree.of_bodyS (code := code) (maxLocals := maxLocals) (ret := ret) (by decide) ?_ ?_
  · intro args s m h hn
    obtain ⟨meth, c, h1, h2, h3, h4, h5, h6, -, -⟩ := Cond.code_spec hn (atoms_spec (ws := Jvm.Cond.code x code maxLocals ret :: tables_1) h _ List.mem_cons_self)
    exact ⟨meth, c, h1, h2, h3, h4, h5, h6⟩
  · intro p e s m args below meth c s₁ B hml0 hP _
    obtain ⟨rfl, hx, hbd, hgv⟩ := hP
    obtain ⟨scr, harrAt, hlist, hof, hsmall⟩ := hx
    obtain ⟨hcb, hkn, -, -⟩ := State.arrayAt?_spec harrAt
    have hown : s.vm.findClass R_law = some m.cls := findClass_of_methodNamed B.named
    have hts0 : ∀ c ∈ (Jvm.Cond.code x code maxLocals ret :: tables_1), c.before #[Value.ref b] s = true := atoms_spec (ws := Jvm.Cond.code x code maxLocals ret :: tables_1) B.pre
    have hts : ∀ w ∈ lw_tbl, w.before #[Value.ref b] s = true := k2_hts_sels lw_privs (fun w hw => hts0 w (List.mem_cons_of_mem _ hw)) lw_privs_ok
    have hml : c.maxLocals = 4 := B.maxLocals_eq (hts0 _ List.mem_cons_self)
    have X₀ : Stand p l e room_1 s m #[Value.ref b] below meth c s₁ [] 0 0 := Stand.of_body B
    have hh0 : s₁.heap = s.heap := by rw [B.state]; rfl
    have hsz : scr.slots.size = xs.length := by rw [← Array.length_toList, hlist, List.length_map]
    have hval : ∀ j : Nat, j < xs.length → scr.slots[j]? = some (.int (xs.getD j 0)) := fun j hj => by
      rw [← Array.getElem?_toList, hlist]
      simp [hj]
    have hbl : b < s.heap.size := (Array.getElem?_eq_some_iff.mp hcb).1
    have hX : va_X b xs.length (fun j => xs.getD j 0) s s.heap := ⟨scr, hcb, hof, hkn, hsz, hval⟩
    have K : W p l e room_1 s m #[Value.ref b] below meth c s₁.heap [] 0 0 (lw_Z below #[Value.ref b] s) (entryFrame m ([Value.ref b] : List Value).toArray 4) := by
      rw [hh0]
      exact whole_start l hbd ⟨B.exec, B.bytes, B.returns, hml, hown, hts, hX, hbl, B.notSynchronized, hgv⟩
    obtain ⟨t, a1, o, b1, b2, b3⟩ := K s₁ rfl X₀
    exact ⟨t, o, a1, b1, b2, b3⟩
theorem lw_pre_spec {args : Array Value} {s : State} (h : (Jvm.Cond.and given_1 narrow_1).before args s = true) (hr : rest_1_c.before args s = true) : ∃ (b : Addr) (xs : List Int32), lw_P b xs args s := by
  have hs := flat_of_before _ h
  have hq := flat_of_before _ hr
  have hc : (Cond.count 1).before args s = true := hs _ (by decide +kernel)
  have harr : (Cond.arrayOf (.arg 0) .int).before args s = true := hs _ (by decide +kernel)
  have hle : (Cond.le (.length (.arg 0)) (.int 320)).before args s = true := hs _ (by decide +kernel)
  have hlen : (Cond.isInt (.length (.arg 0))).before args s = true := hq _ (by decide +kernel)
  have hall : (Cond.all (.arg 0) (.isInt (.elem (.arg 0) (.index 0)))).before args s = true := hq _ (by decide +kernel)
  obtain ⟨b, xs, hb, hx⟩ := State.ints_of_pre rfl harr hlen hall
  have hsm : xs.length < 2 ^ 31 := hx.choose_spec.2.2.2
  have hev : (Term.length (.arg 0)).eval args s none [] s = some (.int xs.length.toInt32) := hx.length_eval hb
  have hv := Cond.le_ints hev (show (Term.int 320).eval args s none [] s = some (.int 320) from rfl)
  have hd : xs.length.toInt32 ≤ 320 := by
    simpa [Cond.before, Cond.holds, hv] using hle
  have hN : xs.length ≤ 320 := (Int32.ofNat_le_ofNat hsm (by decide)).mp (show Int32.ofNat xs.length ≤ Int32.ofNat 320 from hd)
  exact ⟨b, xs, Cond.one_arg hc (show args[0]? = some (.ref b) from hb), hx, hN, h⟩
theorem lw_comes (l : Launch) : Comes l x (Jvm.Cond.code x code maxLocals ret :: tables_1) room_1 (fun tb e args s => Calls_1 tb e args s ∧ rest_1 tb e args s ∧ Pre_1 tb e args s)
    (fun _ _ args s o t => lw_Q args s o t) := by
  intro p e ha hc hk s m args below hf hfit hheap happ hpre
  obtain ⟨b, xs, hP⟩ := lw_pre_spec hpre.2.2 hpre.2.1
  obtain ⟨k, o, h1, h2, h3, hQ⟩ := lw_walk l b xs p e ha hc hk s m args below hf ((Spec.applies_iff_loose hf).mp happ).1 hP trivial
  exact ⟨k, o, h1, h2, h3, hQ⟩
theorem lw_frame {s t : State} {o : Outcome} {args : Array Value} (h : Framed s o t [] 600000 7290000) :
    Framed s o t (fieldLocs frame_1_writes args s ++ arrayLocs frame_1_arrays args s ++ staticLocs frame_1_statics s) 600000 7290000 := h
theorem lw_limb (L : Cond) (hL : ∀ (args : Array Value) (s t : State), L.after args s (.returned (some (.int 1))) t = true) :
    ArmFor flags0 classFile x code maxLocals ret World_1 tables_1 room_1 Calls_1 rest_1 Pre_1
      (fun tb e a s o t => postC L tb e a s o t ∧ Framed s o t (fieldLocs frame_1_writes a s ++ arrayLocs frame_1_arrays a s ++ staticLocs frame_1_statics s) 600000 7290000) := by
  intro l _ _ _ p e ha hc hk s m args below hf hfit hheap happ hpre
  obtain ⟨k, o, h1, h2, h3, rfl, hF⟩ := lw_comes l p e ha hc hk s m args below hf hfit hheap happ hpre
  exact ⟨k, _, h1, h2, h3, hL args s _, lw_frame hF⟩
theorem i_vc : Claimed_1_1 ∧ Claimed_1_2 := ⟨lw_limb limb_1_1 (fun args s t => by simp [limb_1_1, Cond.after, Cond.holds, Cond.value]), lw_limb limb_1_2 (fun args s t => Cond.after_iff.mpr (by
  first | (rw [show limb_1_2 = Cond.eq .result (.int 1) from rfl, Cond.eq_ints (x := 1) (y := 1) rfl rfl]; simp; done) | (simp [limb_1_2, Cond.value, Term.eval]; done)))⟩
end
